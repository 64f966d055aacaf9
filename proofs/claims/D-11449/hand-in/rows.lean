section
/-! numbers as Nat (an int is nI n), arrays packed into one Nat, tests as Bool -/
noncomputable def qo_ni (b : Bool) (x y : Nat) : Nat := Bool.rec y x b
noncomputable def qo_if (b x y : Bool) : Bool := Bool.rec y x b
noncomputable def qo_nd (b x : Bool) : Bool := Bool.rec false x b
noncomputable def qo_fz (n : Nat) (k : Nat → Bool) : Bool := Nat.rec (k 0) (fun m _ => k (Nat.succ m)) n
theorem qo_fz_e (n : Nat) (k : Nat → Bool) : qo_fz n k = k n := by cases n <;> rfl
/-- an int's bits as a number -/
def qo_u (x : Int32) : Nat := x.toBitVec.toNat
def qo_uL (x : Int64) : Nat := x.toBitVec.toNat
theorem qo_nu (x : Int32) : nI (qo_u x) = x := Int32.toBitVec_inj.mp (by show BitVec.ofNat 32 x.toBitVec.toNat = _; simp)
theorem qo_nuL (x : Int64) : lN (qo_uL x) = x := Int64.toBitVec_inj.mp (by show BitVec.ofNat 64 x.toBitVec.toNat = _; simp)
theorem qo_un (a : Nat) : qo_u (nI a) = a % 4294967296 := by
  show (BitVec.ofNat 32 a).toNat = _
  rw [BitVec.toNat_ofNat]
theorem qo_unL (a : Nat) : qo_uL (lN a) = a % 18446744073709551616 := by
  show (BitVec.ofNat 64 a).toNat = _
  rw [BitVec.toNat_ofNat]
theorem qo_mod {a b : Nat} (h : a % 4294967296 = b % 4294967296) : nI a = nI b := by
  rw [← qo_nu (nI a), ← qo_nu (nI b), qo_un, qo_un, h]
theorem qo_modL {a b : Nat} (h : a % 18446744073709551616 = b % 18446744073709551616) : lN a = lN b := by
  rw [← qo_nuL (lN a), ← qo_nuL (lN b), qo_unL, qo_unL, h]
theorem qo_mm (a : Nat) : nI (a % 4294967296) = nI a := qo_mod (Nat.mod_mod _ _)
theorem qo_mmL (a : Nat) : lN (a % 18446744073709551616) = lN a := qo_modL (Nat.mod_mod _ _)
/-- a guarded operation: where the guard falls the int's own operation stands -/
theorem qo_gd {b : Bool} {z : Int32} {n : Nat} (h : b = true → z = nI n) : z = nI (qo_ni b n (qo_u z)) := by
  cases b
  · exact (qo_nu z).symm
  · exact h rfl
theorem qo_gdL {b : Bool} {z : Int64} {n : Nat} (h : b = true → z = lN n) : z = lN (qo_ni b n (qo_uL z)) := by
  cases b
  · exact (qo_nuL z).symm
  · exact h rfl
theorem qo_v (x : Nat) : nI x = nI x := rfl
theorem qo_vL (x : Nat) : lN x = lN x := rfl
/-! the operations -/
def qo_ad (a b : Nat) : Nat := Nat.mod (Nat.add a b) 4294967296
def qo_mu (a b : Nat) : Nat := Nat.mod (Nat.mul a b) 4294967296
def qo_ng (a : Nat) : Nat := Nat.mod (Nat.sub 4294967296 (Nat.mod a 4294967296)) 4294967296
def qo_su (a b : Nat) : Nat := Nat.mod (Nat.add a (Nat.sub 4294967296 (Nat.mod b 4294967296))) 4294967296
theorem qo_e_ad {x y : Int32} {a b : Nat} (hx : x = nI a) (hy : y = nI b) : x + y = nI (qo_ad a b) := by
  subst hx; subst hy
  show _ = nI ((a + b) % 4294967296)
  rw [qo_mm, nI_add]
theorem qo_e_mu {x y : Int32} {a b : Nat} (hx : x = nI a) (hy : y = nI b) : x * y = nI (qo_mu a b) := by
  subst hx; subst hy
  show _ = nI ((a * b) % 4294967296)
  rw [qo_mm]
  exact (Int32.ofNat_mul a b).symm
theorem qo_e_su {x y : Int32} {a b : Nat} (hx : x = nI a) (hy : y = nI b) : x - y = nI (qo_su a b) := by
  subst hx; subst hy
  show _ = nI ((a + (4294967296 - b % 4294967296)) % 4294967296)
  rw [qo_mm, ← nI_add]
  have h1 : nI (4294967296 - b % 4294967296) = nI 4294967296 - nI (b % 4294967296) := Int32.ofNat_sub _ _ (by omega)
  have h2 : nI 4294967296 = 0 := by decide +kernel
  rw [h1, h2, qo_mm]
  grind
theorem qo_e_ng {x : Int32} {a : Nat} (hx : x = nI a) : -x = nI (qo_ng a) := by
  subst hx
  show _ = nI ((4294967296 - a % 4294967296) % 4294967296)
  rw [qo_mm]
  have h1 : nI (4294967296 - a % 4294967296) = nI 4294967296 - nI (a % 4294967296) := Int32.ofNat_sub _ _ (by omega)
  have h2 : nI 4294967296 = 0 := by decide +kernel
  rw [h1, h2, qo_mm]
  grind
theorem qo_e_an {x y : Int32} {a b : Nat} (hx : x = nI a) (hy : y = nI b) : x &&& y = nI (Nat.land a b) := by
  subst hx; subst hy
  apply Int32.toBitVec_inj.1
  show BitVec.ofNat 32 a &&& BitVec.ofNat 32 b = BitVec.ofNat 32 (a &&& b)
  apply BitVec.eq_of_getLsbD_eq
  intro i hi
  simp [hi]
theorem qo_e_or {x y : Int32} {a b : Nat} (hx : x = nI a) (hy : y = nI b) : x ||| y = nI (Nat.lor a b) := by
  subst hx; subst hy
  apply Int32.toBitVec_inj.1
  show BitVec.ofNat 32 a ||| BitVec.ofNat 32 b = BitVec.ofNat 32 (a ||| b)
  apply BitVec.eq_of_getLsbD_eq
  intro i hi
  simp [hi]
theorem qo_e_xo {x y : Int32} {a b : Nat} (hx : x = nI a) (hy : y = nI b) : x ^^^ y = nI (Nat.xor a b) := by
  subst hx; subst hy
  apply Int32.toBitVec_inj.1
  show BitVec.ofNat 32 a ^^^ BitVec.ofNat 32 b = BitVec.ofNat 32 (a ^^^ b)
  apply BitVec.eq_of_getLsbD_eq
  intro i hi
  simp [hi]
theorem qo_sm : ∀ k, k < 32 → ((nI k &&& 31).toBitVec.smod 32).toNat = k := by decide +kernel
noncomputable def qo_sl (a k : Nat) : Nat := qo_ni (qo_nd (Nat.ble k 31) (Nat.ble (Nat.shiftLeft a k) 4294967295)) (Nat.shiftLeft a k) (qo_u (nI a <<< (nI k &&& 31)))
noncomputable def qo_sr (a k : Nat) : Nat := qo_ni (qo_nd (Nat.ble k 31) (Nat.ble a 2147483647)) (Nat.shiftRight a k) (qo_u (nI a >>> (nI k &&& 31)))
noncomputable def qo_dv (a b : Nat) : Nat := qo_ni (qo_nd (Nat.ble a 2147483647) (qo_nd (Nat.ble 1 b) (Nat.ble b 2147483647))) (Nat.div a b) (qo_u (nI a / nI b))
theorem qo_nd_t {a b : Bool} (h : qo_nd a b = true) : a = true ∧ b = true := by
  cases a
  · exact absurd h Bool.false_ne_true
  · exact ⟨rfl, h⟩
theorem qo_e_sl {x y : Int32} {a k : Nat} (hx : x = nI a) (hy : y = nI k) : x <<< (y &&& 31) = nI (qo_sl a k) := by
  subst hx; subst hy
  refine qo_gd (fun h => ?_)
  have h1 := Nat.le_of_ble_eq_true (qo_nd_t h).1
  have h2 : a <<< k ≤ 4294967295 := Nat.le_of_ble_eq_true (qo_nd_t h).2
  show _ = nI (a <<< k)
  rw [Nat.shiftLeft_eq] at h2 ⊢
  exact pk_shlN _ k (qo_sm k (by omega)) (by omega)
theorem qo_e_sr {x y : Int32} {a k : Nat} (hx : x = nI a) (hy : y = nI k) : x >>> (y &&& 31) = nI (qo_sr a k) := by
  subst hx; subst hy
  refine qo_gd (fun h => ?_)
  have h1 := Nat.le_of_ble_eq_true (qo_nd_t h).1
  have h2 := Nat.le_of_ble_eq_true (qo_nd_t h).2
  show _ = nI (a >>> k)
  rw [Nat.shiftRight_eq_div_pow]
  exact pk_shrN (by omega) _ k (qo_sm k (by omega))
theorem qo_e_dv {x y : Int32} {a b : Nat} (hx : x = nI a) (hy : y = nI b) : x / y = nI (qo_dv a b) := by
  subst hx; subst hy
  refine qo_gd (fun h => ?_)
  have h1 := Nat.le_of_ble_eq_true (qo_nd_t h).1
  have h2 := Nat.le_of_ble_eq_true (qo_nd_t (qo_nd_t h).2).1
  have h3 := Nat.le_of_ble_eq_true (qo_nd_t (qo_nd_t h).2).2
  exact pk_div (by omega) (by omega) (by omega)
noncomputable def qo_cl (a : Nat) : Nat := qo_ni (Nat.ble a 2147483647) a (nI a).toNatClampNeg
theorem qo_e_cl {x : Int32} {a : Nat} (hx : x = nI a) : x.toNatClampNeg = qo_cl a := by
  subst hx
  unfold qo_cl
  cases h : Nat.ble a 2147483647
  · rfl
  · exact nI_clamp (by have := Nat.le_of_ble_eq_true h; omega)
/-! tests -/
def qo_le (a b : Nat) : Bool := Nat.ble (Nat.mod (Nat.add a 2147483648) 4294967296) (Nat.mod (Nat.add b 2147483648) 4294967296)
def qo_lt (a b : Nat) : Bool := Nat.ble (Nat.succ (Nat.mod (Nat.add a 2147483648) 4294967296)) (Nat.mod (Nat.add b 2147483648) 4294967296)
def qo_eq (a b : Nat) : Bool := Nat.beq (Nat.mod a 4294967296) (Nat.mod b 4294967296)
def qo_eqL (a b : Nat) : Bool := Nat.beq (Nat.mod a 18446744073709551616) (Nat.mod b 18446744073709551616)
theorem qo_ti (a : Nat) : (nI a).toInt = (((a + 2147483648) % 4294967296 : Nat) : Int) - 2147483648 := by
  show (Int32.ofNat a).toInt = _
  rw [Int32.toInt_ofNat', show Int32.size = 4294967296 from rfl, Int.bmod_def]
  split <;> omega
theorem qo_ble {a b : Nat} : a ≤ b ↔ Nat.ble a b = true := ⟨Nat.ble_eq_true_of_le, Nat.le_of_ble_eq_true⟩
theorem qo_beq {a b : Nat} : a = b ↔ Nat.beq a b = true := ⟨fun h => by subst h; exact Nat.beq_refl a, Nat.eq_of_beq_eq_true⟩
theorem qo_i_le {x y : Int32} {a b : Nat} (hx : x = nI a) (hy : y = nI b) : x ≤ y ↔ qo_le a b = true := by
  subst hx; subst hy
  rw [Int32.le_iff_toInt_le, qo_ti, qo_ti]
  refine Iff.trans ?_ qo_ble
  show _ ↔ (a + 2147483648) % 4294967296 ≤ (b + 2147483648) % 4294967296
  omega
theorem qo_i_lt {x y : Int32} {a b : Nat} (hx : x = nI a) (hy : y = nI b) : x < y ↔ qo_lt a b = true := by
  subst hx; subst hy
  rw [Int32.lt_iff_toInt_lt, qo_ti, qo_ti]
  refine Iff.trans ?_ qo_ble
  show _ ↔ (a + 2147483648) % 4294967296 + 1 ≤ (b + 2147483648) % 4294967296
  omega
theorem qo_i_eq {x y : Int32} {a b : Nat} (hx : x = nI a) (hy : y = nI b) : x = y ↔ qo_eq a b = true := by
  subst hx; subst hy
  refine Iff.trans ?_ qo_beq
  show _ ↔ a % 4294967296 = b % 4294967296
  exact ⟨fun h => by rw [← qo_un, ← qo_un, h], qo_mod⟩
theorem qo_i_eqL {x y : Int64} {a b : Nat} (hx : x = lN a) (hy : y = lN b) : x = y ↔ qo_eqL a b = true := by
  subst hx; subst hy
  refine Iff.trans ?_ qo_beq
  show _ ↔ a % 18446744073709551616 = b % 18446744073709551616
  exact ⟨fun h => by rw [← qo_unL, ← qo_unL, h], qo_modL⟩
/-! longs -/
theorem qo_cw : ∀ k, k < 64 → ((nI k).toInt64 &&& 63) = lN k := by decide +kernel
theorem qo_cu : ∀ k, k < 64 → ((nI k).toInt64.toUInt64 &&& Int64.toUInt64 63) = UInt64.ofNat k := by decide +kernel
theorem qo_sw : ∀ k, k < 64 → (BitVec.ofNat 64 k).smod 64 = BitVec.ofNat 64 k := by decide +kernel
theorem qo_shlL (n : Nat) {k : Nat} (hk : k < 64) : lN n <<< ((nI k).toInt64 &&& 63) = lN (n * 2 ^ k) := by
  rw [qo_cw k hk]
  apply Int64.toBitVec_inj.mp
  rw [Int64.toBitVec_shiftLeft]
  show BitVec.ofNat 64 n <<< ((BitVec.ofNat 64 k).smod 64) = BitVec.ofNat 64 (n * 2 ^ k)
  rw [qo_sw k hk]
  apply BitVec.eq_of_toNat_eq
  rw [BitVec.shiftLeft_eq', BitVec.toNat_shiftLeft, BitVec.toNat_ofNat, BitVec.toNat_ofNat, BitVec.toNat_ofNat, Nat.mod_eq_of_lt (show k < 2 ^ 64 by omega), Nat.shiftLeft_eq, Nat.mul_mod, Nat.mod_mod, ← Nat.mul_mod]
theorem qo_shrL {n k : Nat} (hn : n < 2 ^ 64) (hk : k < 64) : ((lN n).toUInt64 >>> ((nI k).toInt64.toUInt64 &&& Int64.toUInt64 63)).toInt64 = lN (n / 2 ^ k) := by
  rw [qo_cu k hk]
  apply Int64.toBitVec_inj.mp
  apply BitVec.eq_of_toNat_eq
  show ((lN n).toUInt64 >>> UInt64.ofNat k).toNat = (BitVec.ofNat 64 _).toNat
  have h1 : (UInt64.ofNat k).toNat = k := by
    show (BitVec.ofNat 64 k).toNat = k
    rw [BitVec.toNat_ofNat]
    exact Nat.mod_eq_of_lt (by omega)
  have h2 : (lN n).toUInt64.toNat = n := by
    show (BitVec.ofNat 64 n).toNat = n
    rw [BitVec.toNat_ofNat]
    exact Nat.mod_eq_of_lt hn
  rw [UInt64.toNat_shiftRight, h1, h2, Nat.mod_eq_of_lt hk, Nat.shiftRight_eq_div_pow, BitVec.toNat_ofNat]
  exact (Nat.mod_eq_of_lt (Nat.lt_of_le_of_lt (Nat.div_le_self _ _) hn)).symm
noncomputable def qo_slL (a k : Nat) : Nat := qo_ni (Nat.ble k 63) (Nat.mod (Nat.shiftLeft a k) 18446744073709551616) (qo_uL (lN a <<< ((nI k).toInt64 &&& 63)))
noncomputable def qo_srL (a k : Nat) : Nat := qo_ni (qo_nd (Nat.ble k 63) (Nat.ble a 18446744073709551615)) (Nat.shiftRight a k) (qo_uL ((lN a).toUInt64 >>> ((nI k).toInt64.toUInt64 &&& Int64.toUInt64 63)).toInt64)
theorem qo_e_slL {x : Int64} {y : Int32} {a k : Nat} (hx : x = lN a) (hy : y = nI k) : x <<< (y.toInt64 &&& 63) = lN (qo_slL a k) := by
  subst hx; subst hy
  refine qo_gdL (fun h => ?_)
  have h1 := Nat.le_of_ble_eq_true h
  show _ = lN ((a <<< k) % 18446744073709551616)
  rw [qo_mmL, Nat.shiftLeft_eq]
  exact qo_shlL a (by omega)
theorem qo_e_srL {x : Int64} {y : Int32} {a k : Nat} (hx : x = lN a) (hy : y = nI k) : (x.toUInt64 >>> (y.toInt64.toUInt64 &&& Int64.toUInt64 63)).toInt64 = lN (qo_srL a k) := by
  subst hx; subst hy
  refine qo_gdL (fun h => ?_)
  have h1 := Nat.le_of_ble_eq_true (qo_nd_t h).1
  have h2 := Nat.le_of_ble_eq_true (qo_nd_t h).2
  show _ = lN (a >>> k)
  rw [Nat.shiftRight_eq_div_pow]
  exact qo_shrL (by omega) (by omega)
theorem qo_e_orL {x y : Int64} {a b : Nat} (hx : x = lN a) (hy : y = lN b) : x ||| y = lN (Nat.lor a b) := by
  subst hx; subst hy
  apply Int64.toBitVec_inj.1
  show BitVec.ofNat 64 a ||| BitVec.ofNat 64 b = BitVec.ofNat 64 (a ||| b)
  apply BitVec.eq_of_getLsbD_eq
  intro i hi
  simp [hi]
theorem qo_e_xoL {x y : Int64} {a b : Nat} (hx : x = lN a) (hy : y = lN b) : x ^^^ y = lN (Nat.xor a b) := by
  subst hx; subst hy
  apply Int64.toBitVec_inj.1
  show BitVec.ofNat 64 a ^^^ BitVec.ofNat 64 b = BitVec.ofNat 64 (a ^^^ b)
  apply BitVec.eq_of_getLsbD_eq
  intro i hi
  simp [hi]
noncomputable def qo_il (a : Nat) : Nat := qo_ni (Nat.ble a 2147483647) a (qo_uL (nI a).toInt64)
theorem qo_e_il {x : Int32} {a : Nat} (hx : x = nI a) : x.toInt64 = lN (qo_il a) := by
  subst hx
  refine qo_gdL (fun h => ?_)
  have h1 := Nat.le_of_ble_eq_true h
  exact nI_l (by omega)
theorem qo_e_li {x : Int64} {a : Nat} (hx : x = lN a) : x.toInt32 = nI (Nat.mod a 4294967296) := by
  subst hx
  show _ = nI (a % 4294967296)
  rw [qo_mm, lN_i]
/-! arrays -/
def qo_ar (A : Nat) : Nat → Int32 := fun i => nI (Nat.shiftRight A (Nat.mul 32 i))
def qo_gt (A i : Nat) : Nat := Nat.mod (Nat.shiftRight A (Nat.mul 32 i)) 4294967296
def qo_st (A i v : Nat) : Nat := Nat.lor (Nat.mod A (Nat.pow 2 (Nat.mul 32 i))) (Nat.shiftLeft (Nat.lor (Nat.mod v 4294967296) (Nat.shiftLeft (Nat.shiftRight A (Nat.add (Nat.mul 32 i) 32)) 32)) (Nat.mul 32 i))
def qo_aL (A : Nat) : Nat → Int64 := fun i => lN (Nat.shiftRight A (Nat.mul 64 i))
def qo_gL (A i : Nat) : Nat := Nat.mod (Nat.shiftRight A (Nat.mul 64 i)) 18446744073709551616
def qo_sL (A i v : Nat) : Nat := Nat.lor (Nat.mod A (Nat.pow 2 (Nat.mul 64 i))) (Nat.shiftLeft (Nat.lor (Nat.mod v 18446744073709551616) (Nat.shiftLeft (Nat.shiftRight A (Nat.add (Nat.mul 64 i) 64)) 64)) (Nat.mul 64 i))
theorem qo_bt {a b : Nat} (h : ∀ i, i < 32 → a.testBit i = b.testBit i) : nI a = nI b := by
  apply qo_mod
  apply Nat.eq_of_testBit_eq
  intro i
  rw [show (4294967296 : Nat) = 2 ^ 32 from rfl, Nat.testBit_mod_two_pow, Nat.testBit_mod_two_pow]
  by_cases hi : i < 32
  · rw [h i hi]
  · simp [hi]
theorem qo_btL {a b : Nat} (h : ∀ i, i < 64 → a.testBit i = b.testBit i) : lN a = lN b := by
  apply qo_modL
  apply Nat.eq_of_testBit_eq
  intro i
  rw [show (18446744073709551616 : Nat) = 2 ^ 64 from rfl, Nat.testBit_mod_two_pow, Nat.testBit_mod_two_pow]
  by_cases hi : i < 64
  · rw [h i hi]
  · simp [hi]
/-- a bit of a packed array behind a store -/
theorem qo_stb (w A s v m : Nat) : (A % 2 ^ s ||| (v % 2 ^ w ||| (A >>> (s + w)) <<< w) <<< s).testBit m = if m < s then A.testBit m else if m < s + w then v.testBit (m - s) else A.testBit m := by
  rw [Nat.testBit_or, Nat.testBit_mod_two_pow, Nat.testBit_shiftLeft, Nat.testBit_or, Nat.testBit_mod_two_pow, Nat.testBit_shiftLeft, Nat.testBit_shiftRight]
  by_cases h1 : m < s
  · rw [if_pos h1, decide_eq_true h1, decide_eq_false (show ¬ m ≥ s by omega)]
    simp
  · rw [if_neg h1, decide_eq_false h1, decide_eq_true (show m ≥ s by omega)]
    by_cases h2 : m < s + w
    · rw [if_pos h2, decide_eq_true (show m - s < w by omega), decide_eq_false (show ¬ m - s ≥ w by omega)]
      simp
    · rw [if_neg h2, decide_eq_false (show ¬ m - s < w by omega), decide_eq_true (show m - s ≥ w by omega), show s + w + (m - s - w) = m by omega]
      simp
theorem qo_st_e (A i v : Nat) : upd (qo_ar A) i (nI v) = qo_ar (qo_st A i v) := by
  funext j
  show (if j = i then nI v else nI (A >>> (32 * j))) = nI ((A % 2 ^ (32 * i) ||| (v % 2 ^ 32 ||| (A >>> (32 * i + 32)) <<< 32) <<< (32 * i)) >>> (32 * j))
  by_cases h : j = i
  · rw [if_pos h]
    subst h
    apply qo_bt
    intro b hb
    rw [Nat.testBit_shiftRight, qo_stb, if_neg (by omega), if_pos (by omega), show 32 * j + b - 32 * j = b by omega]
  · rw [if_neg h]
    apply qo_bt
    intro b hb
    rw [Nat.testBit_shiftRight, Nat.testBit_shiftRight, qo_stb]
    by_cases h1 : 32 * j + b < 32 * i
    · rw [if_pos h1]
    · rw [if_neg h1, if_neg (by omega)]
theorem qo_sL_e (A i v : Nat) : vp_updL (qo_aL A) i (lN v) = qo_aL (qo_sL A i v) := by
  funext j
  show (if j = i then lN v else lN (A >>> (64 * j))) = lN ((A % 2 ^ (64 * i) ||| (v % 2 ^ 64 ||| (A >>> (64 * i + 64)) <<< 64) <<< (64 * i)) >>> (64 * j))
  by_cases h : j = i
  · rw [if_pos h]
    subst h
    apply qo_btL
    intro b hb
    rw [Nat.testBit_shiftRight, qo_stb, if_neg (by omega), if_pos (by omega), show 64 * j + b - 64 * j = b by omega]
  · rw [if_neg h]
    apply qo_btL
    intro b hb
    rw [Nat.testBit_shiftRight, Nat.testBit_shiftRight, qo_stb]
    by_cases h1 : 64 * j + b < 64 * i
    · rw [if_pos h1]
    · rw [if_neg h1, if_neg (by omega)]
theorem qo_e_g0 (A i : Nat) : qo_ar A i = nI (qo_gt A i) := (qo_mm _).symm
theorem qo_e_gt (A : Nat) {x : Int32} {i : Nat} (hx : x = nI i) : qo_ar A x.toNatClampNeg = nI (qo_gt A (qo_cl i)) := by
  rw [qo_e_cl hx]
  exact qo_e_g0 A _
theorem qo_e_gL (A : Nat) {x : Int32} {i : Nat} (hx : x = nI i) : qo_aL A x.toNatClampNeg = lN (qo_gL A (qo_cl i)) := by
  rw [qo_e_cl hx]
  exact (qo_mmL _).symm
theorem qo_e_st (A : Nat) {x y : Int32} {i v : Nat} (hx : x = nI i) (hy : y = nI v) : upd (qo_ar A) x.toNatClampNeg y = qo_ar (qo_st A (qo_cl i) v) := by
  rw [qo_e_cl hx, hy]
  exact qo_st_e A _ v
theorem qo_e_sL (A : Nat) {x : Int32} {y : Int64} {i v : Nat} (hx : x = nI i) (hy : y = lN v) : vp_updL (qo_aL A) x.toNatClampNeg y = qo_aL (qo_sL A (qo_cl i) v) := by
  rw [qo_e_cl hx, hy]
  exact qo_sL_e A _ v
theorem qo_z : (fun _ => 0 : Nat → Int32) = qo_ar 0 := by
  funext j
  show _ = nI (0 >>> (32 * j))
  rw [Nat.zero_shiftRight]
  rfl
theorem qo_zL : (fun _ => 0 : Nat → Int64) = qo_aL 0 := by
  funext j
  show _ = lN (0 >>> (64 * j))
  rw [Nat.zero_shiftRight]
  rfl
/-! the steps of a walk -/
theorem qo_br {c A B : Prop} {b x y : Bool} (hc : c ↔ b = true) (h : qo_if b x y = true) (hA : x = true → A) (hB : y = true → B) : (c → A) ∧ (¬ c → B) := by
  cases b
  · exact ⟨fun z => absurd (hc.mp z) Bool.false_ne_true, fun _ => hB h⟩
  · exact ⟨fun _ => hA h, fun z => absurd (hc.mpr rfl) z⟩
theorem qo_nm {P : Int32 → Prop} {e : Int32} {n : Nat} {k : Nat → Bool} (he : e = nI n) (h : qo_fz n k = true) (hp : ∀ m, k m = true → P (nI m)) : ∀ x, x = e → P x := by
  intro x hx
  rw [hx, he]
  exact hp n ((qo_fz_e _ _).symm.trans h)
theorem qo_nmL {P : Int64 → Prop} {e : Int64} {n : Nat} {k : Nat → Bool} (he : e = lN n) (h : qo_fz n k = true) (hp : ∀ m, k m = true → P (lN m)) : ∀ x, x = e → P x := by
  intro x hx
  rw [hx, he]
  exact hp n ((qo_fz_e _ _).symm.trans h)
theorem qo_nA {P : (Nat → Int32) → Prop} {e : Nat → Int32} {n : Nat} {k : Nat → Bool} (he : e = qo_ar n) (h : qo_fz n k = true) (hp : ∀ m, k m = true → P (qo_ar m)) : ∀ x, x = e → P x := by
  intro x hx
  rw [hx, he]
  exact hp n ((qo_fz_e _ _).symm.trans h)
theorem qo_nAL {P : (Nat → Int64) → Prop} {e : Nat → Int64} {n : Nat} {k : Nat → Bool} (he : e = qo_aL n) (h : qo_fz n k = true) (hp : ∀ m, k m = true → P (qo_aL m)) : ∀ x, x = e → P x := by
  intro x hx
  rw [hx, he]
  exact hp n ((qo_fz_e _ _).symm.trans h)
theorem qo_in {P : Prop} {i : Int32} {a N : Nat} {b : Bool} (hN : N < 2 ^ 31) (hi : i = nI a) (h : qo_nd (Nat.ble (Nat.succ a) N) b = true) (hp : vp_in i N → b = true → P) : vp_in i N ∧ P := by
  have h1 := Nat.le_of_ble_eq_true (qo_nd_t h).1
  have h2 : vp_in i N := by
    rw [hi]
    exact vp_in_nI h1 hN
  exact ⟨h2, hp h2 (qo_nd_t h).2⟩
theorem qo_po {post : Int32 → Prop} {e : Int32} {n : Nat} {k : Nat → Bool} (he : e = nI n) (h : qo_fz n k = true) (hk : ∀ r, k r = true → post (nI r)) : post e := by
  rw [he]
  exact hk n ((qo_fz_e _ _).symm.trans h)
theorem qo_poL {post : Int64 → Prop} {e : Int64} {n : Nat} {k : Nat → Bool} (he : e = lN n) (h : qo_fz n k = true) (hk : ∀ r, k r = true → post (lN r)) : post e := by
  rw [he]
  exact hk n ((qo_fz_e _ _).symm.trans h)
theorem qo_pr {α : Type} {post : Int32 → α → Prop} {u : α} {e : Int32} {n : Nat} {k : Nat → Bool} (he : e = nI n) (h : qo_fz n k = true) (hk : ∀ r, k r = true → post (nI r) u) : post e u := by
  rw [he]
  exact hk n ((qo_fz_e _ _).symm.trans h)
theorem qo_no {P : Prop} (h : false = true) : P := absurd h Bool.false_ne_true
end
section
/-! literals -/
theorem qo_km4 : (-4 : Int32) = nI 4294967292 := by decide +kernel
theorem qo_km3 : (-3 : Int32) = nI 4294967293 := by decide +kernel
theorem qo_km2 : (-2 : Int32) = nI 4294967294 := by decide +kernel
theorem qo_km1 : (-1 : Int32) = nI 4294967295 := by decide +kernel
theorem qo_k0 : (0 : Int32) = nI 0 := rfl
theorem qo_k1 : (1 : Int32) = nI 1 := rfl
theorem qo_k2 : (2 : Int32) = nI 2 := rfl
theorem qo_k3 : (3 : Int32) = nI 3 := rfl
theorem qo_k4 : (4 : Int32) = nI 4 := rfl
theorem qo_k6 : (6 : Int32) = nI 6 := rfl
theorem qo_k8 : (8 : Int32) = nI 8 := rfl
theorem qo_k10 : (10 : Int32) = nI 10 := rfl
theorem qo_k12 : (12 : Int32) = nI 12 := rfl
theorem qo_k15 : (15 : Int32) = nI 15 := rfl
theorem qo_k16 : (16 : Int32) = nI 16 := rfl
theorem qo_k17 : (17 : Int32) = nI 17 := rfl
theorem qo_k31 : (31 : Int32) = nI 31 := rfl
theorem qo_k100 : (100 : Int32) = nI 100 := rfl
theorem qo_k256 : (256 : Int32) = nI 256 := rfl
theorem qo_k1948 : (1948 : Int32) = nI 1948 := rfl
theorem qo_k2047 : (2047 : Int32) = nI 2047 := rfl
theorem qo_k2048 : (2048 : Int32) = nI 2048 := rfl
theorem qo_k200000 : (200000 : Int32) = nI 200000 := rfl
theorem qo_k0L : (0 : Int64) = lN 0 := rfl
/-! clearTable: in closed form -/
theorem qc_loop {post : St2 → Prop} {f0_on f0_trump f0_lead f0_played f0_firstWon f0_secondWon f0_steps f0_kind f0_entered : Int32} {a1 a2 a3 a4 a5 a6 a7 a8 a9 a10 a11 a12 a14 : Nat → Int32} : ∀ (n i : Nat) (a13 : Nat → Int64), i ≤ 2048 → 2048 - i < n → (∀ b : Nat → Int64, (∀ j, i ≤ j → j < 2048 → b j = 0) → (∀ j, (j < i ∨ 2048 ≤ j) → b j = a13 j) → post (f0_on, f0_trump, f0_lead, f0_played, f0_firstWon, f0_secondWon, f0_steps, f0_kind, 0, a1, a2, a3, a4, a5, a6, a7, a8, a9, a10, a11, a12, b, a14)) → wX_clearTable_2 post f0_on f0_trump f0_lead f0_played f0_firstWon f0_secondWon f0_steps f0_kind f0_entered n (nI i) a1 a2 a3 a4 a5 a6 a7 a8 a9 a10 a11 a12 a13 a14 := by
  intro n
  induction n with
  | zero =>
    intro i a13 h1 h2 H
    exact absurd h2 (Nat.not_lt_zero _)
  | succ n ih =>
    intro i a13 h1 h2 H
    refine ⟨fun hc => ?_, fun hc => ?_⟩
    · have hc' : nI 2048 ≤ nI i := hc
      have h3 := (nI_leI (by decide) (by omega)).mp hc'
      exact H a13 (fun j g1 g2 => absurd g2 (by omega)) (fun j _ => rfl)
    · have hc' : ¬ nI 2048 ≤ nI i := hc
      have h3 : ¬ 2048 ≤ i := fun z => hc' (nI_le z (by omega))
      refine ⟨vp_in_nI (by omega) (by decide), ?_⟩
      intro a ea x ex
      subst ea; subst ex
      rw [nI_1, nI_clamp (by omega)]
      refine ih (i + 1) _ (by omega) (by omega) (fun b g1 g2 => H b (fun j k1 k2 => ?_) (fun j k1 => ?_))
      · by_cases e : j = i
        · rw [g2 j (Or.inl (by omega)), e, pk_uLs]
        · exact g1 j (by omega) k2
      · rw [g2 j (by omega), pk_uLn (by omega)]
noncomputable def qm_p_clearTable (f0_on f0_trump f0_lead f0_played f0_firstWon f0_secondWon f0_steps f0_kind a1 a2 a3 a4 a5 a6 a7 a8 a9 a10 a11 a12 a13 a14 : Nat) (k : Nat → Nat → Nat → Nat → Nat → Nat → Nat → Nat → Nat → Nat → Nat → Nat → Nat → Nat → Nat → Nat → Nat → Nat → Nat → Nat → Nat → Nat → Nat → Bool) : Bool := qo_nd (Nat.beq (Nat.shiftRight a13 131072) 0) (k f0_on f0_trump f0_lead f0_played f0_firstWon f0_secondWon f0_steps f0_kind 0 a1 a2 a3 a4 a5 a6 a7 a8 a9 a10 a11 a12 0 a14)
theorem qt_p_clearTable {post : St2 → Prop} {f0_on f0_trump f0_lead f0_played f0_firstWon f0_secondWon f0_steps f0_kind a1 a2 a3 a4 a5 a6 a7 a8 a9 a10 a11 a12 a13 a14 : Nat} {f0_entered : Int32} {k : Nat → Nat → Nat → Nat → Nat → Nat → Nat → Nat → Nat → Nat → Nat → Nat → Nat → Nat → Nat → Nat → Nat → Nat → Nat → Nat → Nat → Nat → Nat → Bool} (hk : ∀ (s0 s1 s2 s3 s4 s5 s6 s7 s8 s9 s10 s11 s12 s13 s14 s15 s16 s17 s18 s19 s20 s21 s22 : Nat), k s0 s1 s2 s3 s4 s5 s6 s7 s8 s9 s10 s11 s12 s13 s14 s15 s16 s17 s18 s19 s20 s21 s22 = true → post (nI s0, nI s1, nI s2, nI s3, nI s4, nI s5, nI s6, nI s7, nI s8, qo_ar s9, qo_ar s10, qo_ar s11, qo_ar s12, qo_ar s13, qo_ar s14, qo_ar s15, qo_ar s16, qo_ar s17, qo_ar s18, qo_ar s19, qo_ar s20, qo_aL s21, qo_ar s22)) (h : qm_p_clearTable f0_on f0_trump f0_lead f0_played f0_firstWon f0_secondWon f0_steps f0_kind a1 a2 a3 a4 a5 a6 a7 a8 a9 a10 a11 a12 a13 a14 k = true) : wpX_clearTable post (nI f0_on, nI f0_trump, nI f0_lead, nI f0_played, nI f0_firstWon, nI f0_secondWon, nI f0_steps, nI f0_kind, f0_entered, qo_ar a1, qo_ar a2, qo_ar a3, qo_ar a4, qo_ar a5, qo_ar a6, qo_ar a7, qo_ar a8, qo_ar a9, qo_ar a10, qo_ar a11, qo_ar a12, qo_aL a13, qo_ar a14) := by
  have h0 : a13 >>> 131072 = 0 := Nat.eq_of_beq_eq_true (qo_nd_t h).1
  have h1 := hk _ _ _ _ _ _ _ _ _ _ _ _ _ _ _ _ _ _ _ _ _ _ _ (qo_nd_t h).2
  refine ⟨2049, qc_loop 2049 0 _ (by omega) (by omega) (fun b g1 g2 => ?_)⟩
  have hb : b = qo_aL 0 := by
    funext j
    rw [← qo_zL]
    by_cases e : j < 2048
    · exact g1 j (Nat.zero_le j) e
    · rw [g2 j (Or.inr (by omega))]
      show lN (a13 >>> (64 * j)) = 0
      rw [show 64 * j = 131072 + (64 * j - 131072) by omega, Nat.shiftRight_add, h0, Nat.zero_shiftRight]
      rfl
  rw [hb]
  exact h1
noncomputable def qm_sizeOf_4_s (x1 : Nat) (k : Nat → Bool) (J : Nat → Nat → Bool) (x2 x3 : Nat) : Bool := (qo_if (qo_le 12 x3) (k x2) (qo_fz (qo_ad x2 (Nat.land (qo_sr x1 x3) 1)) (fun x2_2 => (qo_fz (qo_ad x3 1) (fun x3_3 => (J x2_2 x3_3))))))
noncomputable def qm_sizeOf_4 (x1 : Nat) (k : Nat → Bool) (n : Nat) : Nat → Nat → Bool := Nat.rec (motive := fun _ => Nat → Nat → Bool) (fun _ _ => false) (fun _ J => qm_sizeOf_4_s x1 k J) n
theorem qt_sizeOf_4 {post : Int32 → Prop} {x1_i : Int32} {x1 : Nat} {f0_on : Int32} {f0_trump : Int32} {f0_lead : Int32} {f0_played : Int32} {f0_firstWon : Int32} {f0_secondWon : Int32} {f0_steps : Int32} {f0_kind : Int32} {f0_entered : Int32} {a1 : Nat → Int32} {a2 : Nat → Int32} {a3 : Nat → Int32} {a4 : Nat → Int32} {a5 : Nat → Int32} {a6 : Nat → Int32} {a7 : Nat → Int32} {a8 : Nat → Int32} {a9 : Nat → Int32} {a10 : Nat → Int32} {a11 : Nat → Int32} {a12 : Nat → Int32} {a13 : Nat → Int64} {a14 : Nat → Int32} {k : Nat → Bool} (e_x1 : x1_i = nI x1) (hk : ∀ r : Nat, k r = true → post (nI r)) : ∀ (n : Nat) {x2_i : Int32} {x2 : Nat} {x3_i : Int32} {x3 : Nat} (e_x2 : x2_i = nI x2) (e_x3 : x3_i = nI x3), qm_sizeOf_4 x1 k n x2 x3 = true → wX_sizeOf_4 post x1_i f0_on f0_trump f0_lead f0_played f0_firstWon f0_secondWon f0_steps f0_kind f0_entered a1 a2 a3 a4 a5 a6 a7 a8 a9 a10 a11 a12 a13 a14 n x2_i x3_i := by
  subst e_x1
  intro n
  induction n with
  | zero =>
    intros
    exact qo_no (by assumption)
  | succ n ih =>
    intro x2_i x2 x3_i x3 e_x2 e_x3 h
    subst e_x2
    subst e_x3
    replace h : qm_sizeOf_4_s x1 k (qm_sizeOf_4 x1 k n) x2 x3 = true := h
    unfold qm_sizeOf_4_s at h
    refine qo_br (qo_i_le qo_k12 (qo_v x3)) h (fun h => ?_) (fun h => ?_)
    · exact hk x2 h
    · refine qo_nm (qo_e_ad (qo_v x2) (qo_e_an (qo_e_sr (qo_v x1) (qo_v x3)) qo_k1)) h (fun x2_2 h => ?_)
      refine qo_nm (qo_e_ad (qo_v x3) qo_k1) h (fun x3_3 h => ?_)
      exact ih (qo_v x2_2) (qo_v x3_3) h
noncomputable def qm_p_sizeOf (p0 : Nat) (k : Nat → Bool) : Bool := (qm_sizeOf_4 p0 k 13 0 0)
theorem qt_p_sizeOf {post : Int32 → Prop} {f0_on : Int32} {f0_trump : Int32} {f0_lead : Int32} {f0_played : Int32} {f0_firstWon : Int32} {f0_secondWon : Int32} {f0_steps : Int32} {f0_kind : Int32} {f0_entered : Int32} {a1 : Nat → Int32} {a2 : Nat → Int32} {a3 : Nat → Int32} {a4 : Nat → Int32} {a5 : Nat → Int32} {a6 : Nat → Int32} {a7 : Nat → Int32} {a8 : Nat → Int32} {a9 : Nat → Int32} {a10 : Nat → Int32} {a11 : Nat → Int32} {a12 : Nat → Int32} {a13 : Nat → Int64} {a14 : Nat → Int32} {p0_i : Int32} {p0 : Nat} {k : Nat → Bool} (e_p0 : p0_i = nI p0) (hk : ∀ r : Nat, k r = true → post (nI r)) (h : qm_p_sizeOf p0 k = true) : wpX_sizeOf post (f0_on, f0_trump, f0_lead, f0_played, f0_firstWon, f0_secondWon, f0_steps, f0_kind, f0_entered, a1, a2, a3, a4, a5, a6, a7, a8, a9, a10, a11, a12, a13, a14) p0_i := by
  subst e_p0
  unfold qm_p_sizeOf at h
  unfold wpX_sizeOf
  exact ⟨13, qt_sizeOf_4 (qo_v p0) hk _ qo_k0 qo_k0 h⟩
noncomputable def qm_deal_104 (x3 x4 a1 a2 a3 a4 a5 a6 a7 a8 a9 a10 a11 a12 a13 a14 : Nat) (J54 : Nat → Nat → Nat → Nat → Nat → Nat → Nat → Nat → Nat → Nat → Nat → Nat → Nat → Nat → Nat → Nat → Bool) : Bool := (qo_nd (Nat.ble (Nat.succ x4) 4) (qo_fz (qo_st a2 (qo_cl x4) (qo_gt a1 (qo_cl x4))) (fun a2_14 => (qo_fz (Nat.lor x3 (qo_gt a1 (qo_cl x4))) (fun x3_16 => (qo_fz (qo_ad x4 1) (fun x4_17 => (J54 x3_16 x4_17 a1 a2_14 a3 a4 a5 a6 a7 a8 a9 a10 a11 a12 a13 a14))))))))
theorem qt_deal_104 {post : Int32 → St2 → Prop} {J54 : Int32 → Int32 → ( Nat → Int32 ) → ( Nat → Int32 ) → ( Nat → Int32 ) → ( Nat → Int32 ) → ( Nat → Int32 ) → ( Nat → Int32 ) → ( Nat → Int32 ) → ( Nat → Int32 ) → ( Nat → Int32 ) → ( Nat → Int32 ) → ( Nat → Int32 ) → ( Nat → Int32 ) → ( Nat → Int64 ) → ( Nat → Int32 ) → Prop} {x1 : Int32} {x2 : Int32} {x3_i : Int32} {x3 : Nat} {x4_i : Int32} {x4 : Nat} {f0_on : Int32} {f0_trump : Int32} {f0_lead : Int32} {f0_played : Int32} {f0_firstWon : Int32} {f0_secondWon : Int32} {f0_steps : Int32} {f0_kind : Int32} {f0_entered : Int32} {a1 : Nat} {a2 : Nat} {a3 : Nat} {a4 : Nat} {a5 : Nat} {a6 : Nat} {a7 : Nat} {a8 : Nat} {a9 : Nat} {a10 : Nat} {a11 : Nat} {a12 : Nat} {a13 : Nat} {a14 : Nat} {J54' : Nat → Nat → Nat → Nat → Nat → Nat → Nat → Nat → Nat → Nat → Nat → Nat → Nat → Nat → Nat → Nat → Bool} (e_x3 : x3_i = nI x3) (e_x4 : x4_i = nI x4) (hJ54 : ∀ (w0 w1 w2 w3 w4 w5 w6 w7 w8 w9 w10 w11 w12 w13 w14 w15 : Nat) , J54' w0 w1 w2 w3 w4 w5 w6 w7 w8 w9 w10 w11 w12 w13 w14 w15 = true → J54 (nI w0) (nI w1) (qo_ar w2) (qo_ar w3) (qo_ar w4) (qo_ar w5) (qo_ar w6) (qo_ar w7) (qo_ar w8) (qo_ar w9) (qo_ar w10) (qo_ar w11) (qo_ar w12) (qo_ar w13) (qo_aL w14) (qo_ar w15)) (h : qm_deal_104 x3 x4 a1 a2 a3 a4 a5 a6 a7 a8 a9 a10 a11 a12 a13 a14 J54' = true) : wX_deal_104 post J54 x1 x2 x3_i x4_i f0_on f0_trump f0_lead f0_played f0_firstWon f0_secondWon f0_steps f0_kind f0_entered (qo_ar a1) (qo_ar a2) (qo_ar a3) (qo_ar a4) (qo_ar a5) (qo_ar a6) (qo_ar a7) (qo_ar a8) (qo_ar a9) (qo_ar a10) (qo_ar a11) (qo_ar a12) (qo_aL a13) (qo_ar a14) := by
  subst e_x3
  subst e_x4
  unfold qm_deal_104 at h
  unfold wX_deal_104
  refine qo_in (by decide) (qo_v x4) h (fun hi_1 h => ?_)
  refine ⟨hi_1, ?_⟩
  refine qo_nA (qo_e_st a2 (qo_v x4) (qo_e_gt a1 (qo_v x4))) h (fun a2_14 h => ?_)
  refine ⟨hi_1, ?_⟩
  refine qo_nm (qo_e_or (qo_v x3) (qo_e_gt a1 (qo_v x4))) h (fun x3_16 h => ?_)
  refine qo_nm (qo_e_ad (qo_v x4) qo_k1) h (fun x4_17 h => ?_)
  exact hJ54 x3_16 x4_17 a1 a2_14 a3 a4 a5 a6 a7 a8 a9 a10 a11 a12 a13 a14 h
noncomputable def qm_deal_54_s (x1 x2 f0_trump f0_lead f0_played f0_firstWon f0_secondWon f0_steps f0_kind f0_entered : Nat) (k : Nat → Nat → Nat → Nat → Nat → Nat → Nat → Nat → Nat → Nat → Nat → Nat → Nat → Nat → Nat → Nat → Nat → Nat → Nat → Nat → Nat → Nat → Nat → Nat → Bool) (J : Nat → Nat → Nat → Nat → Nat → Nat → Nat → Nat → Nat → Nat → Nat → Nat → Nat → Nat → Nat → Nat → Bool) (x3 x4 a1 a2 a3 a4 a5 a6 a7 a8 a9 a10 a11 a12 a13 a14 : Nat) : Bool := (qo_if (qo_le 4 x4) (qm_p_sizeOf x3 (fun r_7 => (k r_7 0 f0_trump f0_lead f0_played f0_firstWon f0_secondWon f0_steps f0_kind f0_entered a1 a2 a3 a4 a5 a6 a7 a8 a9 a10 a11 a12 a13 a14))) (qo_nd (Nat.ble (Nat.succ x4) 4) (qo_fz (qo_st a1 (qo_cl x4) (Nat.land (qo_gt a1 (qo_cl x4)) (Nat.xor (qo_sl 1 x1) 4294967295))) (fun a1_10 => (qo_if (qo_eq x4 x2) (qo_fz (qo_st a1_10 (qo_cl x4) (Nat.lor (qo_gt a1_10 (qo_cl x4)) (qo_sl 1 x1))) (fun a1_20 => (qm_deal_104 x3 x4 a1_20 a2 a3 a4 a5 a6 a7 a8 a9 a10 a11 a12 a13 a14 J))) (qm_deal_104 x3 x4 a1_10 a2 a3 a4 a5 a6 a7 a8 a9 a10 a11 a12 a13 a14 J))))))
noncomputable def qm_deal_54 (x1 x2 f0_trump f0_lead f0_played f0_firstWon f0_secondWon f0_steps f0_kind f0_entered : Nat) (k : Nat → Nat → Nat → Nat → Nat → Nat → Nat → Nat → Nat → Nat → Nat → Nat → Nat → Nat → Nat → Nat → Nat → Nat → Nat → Nat → Nat → Nat → Nat → Nat → Bool) (n : Nat) : Nat → Nat → Nat → Nat → Nat → Nat → Nat → Nat → Nat → Nat → Nat → Nat → Nat → Nat → Nat → Nat → Bool := Nat.rec (motive := fun _ => Nat → Nat → Nat → Nat → Nat → Nat → Nat → Nat → Nat → Nat → Nat → Nat → Nat → Nat → Nat → Nat → Bool) (fun _ _ _ _ _ _ _ _ _ _ _ _ _ _ _ _ => false) (fun _ J => qm_deal_54_s x1 x2 f0_trump f0_lead f0_played f0_firstWon f0_secondWon f0_steps f0_kind f0_entered k J) n
theorem qt_deal_54 {post : Int32 → St2 → Prop} {x1_i : Int32} {x1 : Nat} {x2_i : Int32} {x2 : Nat} {f0_on : Int32} {f0_trump : Nat} {f0_lead : Nat} {f0_played : Nat} {f0_firstWon : Nat} {f0_secondWon : Nat} {f0_steps : Nat} {f0_kind : Nat} {f0_entered : Nat} {k : Nat → Nat → Nat → Nat → Nat → Nat → Nat → Nat → Nat → Nat → Nat → Nat → Nat → Nat → Nat → Nat → Nat → Nat → Nat → Nat → Nat → Nat → Nat → Nat → Bool} (e_x1 : x1_i = nI x1) (e_x2 : x2_i = nI x2) (hk : ∀ (r s0 s1 s2 s3 s4 s5 s6 s7 s8 s9 s10 s11 s12 s13 s14 s15 s16 s17 s18 s19 s20 s21 s22 : Nat), k r s0 s1 s2 s3 s4 s5 s6 s7 s8 s9 s10 s11 s12 s13 s14 s15 s16 s17 s18 s19 s20 s21 s22 = true → post (nI r) (nI s0, nI s1, nI s2, nI s3, nI s4, nI s5, nI s6, nI s7, nI s8, qo_ar s9, qo_ar s10, qo_ar s11, qo_ar s12, qo_ar s13, qo_ar s14, qo_ar s15, qo_ar s16, qo_ar s17, qo_ar s18, qo_ar s19, qo_ar s20, qo_aL s21, qo_ar s22)) : ∀ (n : Nat) {x3_i : Int32} {x3 : Nat} {x4_i : Int32} {x4 : Nat} {a1 : Nat} {a2 : Nat} {a3 : Nat} {a4 : Nat} {a5 : Nat} {a6 : Nat} {a7 : Nat} {a8 : Nat} {a9 : Nat} {a10 : Nat} {a11 : Nat} {a12 : Nat} {a13 : Nat} {a14 : Nat} (e_x3 : x3_i = nI x3) (e_x4 : x4_i = nI x4), qm_deal_54 x1 x2 f0_trump f0_lead f0_played f0_firstWon f0_secondWon f0_steps f0_kind f0_entered k n x3 x4 a1 a2 a3 a4 a5 a6 a7 a8 a9 a10 a11 a12 a13 a14 = true → wX_deal_54 post x1_i x2_i f0_on (nI f0_trump) (nI f0_lead) (nI f0_played) (nI f0_firstWon) (nI f0_secondWon) (nI f0_steps) (nI f0_kind) (nI f0_entered) n x3_i x4_i (qo_ar a1) (qo_ar a2) (qo_ar a3) (qo_ar a4) (qo_ar a5) (qo_ar a6) (qo_ar a7) (qo_ar a8) (qo_ar a9) (qo_ar a10) (qo_ar a11) (qo_ar a12) (qo_aL a13) (qo_ar a14) := by
  subst e_x1
  subst e_x2
  intro n
  induction n with
  | zero =>
    intros
    exact qo_no (by assumption)
  | succ n ih =>
    intro x3_i x3 x4_i x4 a1 a2 a3 a4 a5 a6 a7 a8 a9 a10 a11 a12 a13 a14 e_x3 e_x4 h
    subst e_x3
    subst e_x4
    replace h : qm_deal_54_s x1 x2 f0_trump f0_lead f0_played f0_firstWon f0_secondWon f0_steps f0_kind f0_entered k (qm_deal_54 x1 x2 f0_trump f0_lead f0_played f0_firstWon f0_secondWon f0_steps f0_kind f0_entered k n) x3 x4 a1 a2 a3 a4 a5 a6 a7 a8 a9 a10 a11 a12 a13 a14 = true := h
    unfold qm_deal_54_s at h
    refine qo_br (qo_i_le qo_k4 (qo_v x4)) h (fun h => ?_) (fun h => ?_)
    · refine qt_p_sizeOf (qo_v x3) (fun r_7 h => ?_) h
      exact hk r_7 0 f0_trump f0_lead f0_played f0_firstWon f0_secondWon f0_steps f0_kind f0_entered a1 a2 a3 a4 a5 a6 a7 a8 a9 a10 a11 a12 a13 a14 h
    · refine qo_in (by decide) (qo_v x4) h (fun hi_1 h => ?_)
      refine ⟨hi_1, ?_⟩
      refine qo_nA (qo_e_st a1 (qo_v x4) (qo_e_an (qo_e_gt a1 (qo_v x4)) (qo_e_xo (qo_e_sl qo_k1 (qo_v x1)) qo_km1))) h (fun a1_10 h => ?_)
      refine qo_br (qo_i_eq (qo_v x4) (qo_v x2)) h (fun h => ?_) (fun h => ?_)
      · refine ⟨hi_1, ?_⟩
        refine ⟨hi_1, ?_⟩
        refine qo_nA (qo_e_st a1_10 (qo_v x4) (qo_e_or (qo_e_gt a1_10 (qo_v x4)) (qo_e_sl qo_k1 (qo_v x1)))) h (fun a1_20 h => ?_)
        exact qt_deal_104 (qo_v x3) (qo_v x4) (fun w0 w1 w2 w3 w4 w5 w6 w7 w8 w9 w10 w11 w12 w13 w14 w15 h => ih (qo_v w0) (qo_v w1)               h) h
      · exact qt_deal_104 (qo_v x3) (qo_v x4) (fun w0 w1 w2 w3 w4 w5 w6 w7 w8 w9 w10 w11 w12 w13 w14 w15 h => ih (qo_v w0) (qo_v w1)               h) h
noncomputable def qm_p_deal (f0_on f0_trump f0_lead f0_played f0_firstWon f0_secondWon f0_steps f0_kind f0_entered a1 a2 a3 a4 a5 a6 a7 a8 a9 a10 a11 a12 a13 a14 p0 p1 : Nat) (k : Nat → Nat → Nat → Nat → Nat → Nat → Nat → Nat → Nat → Nat → Nat → Nat → Nat → Nat → Nat → Nat → Nat → Nat → Nat → Nat → Nat → Nat → Nat → Nat → Bool) : Bool := (qo_if (qo_lt p0 0) (qo_fz 4294967295 (fun rr_1 => k rr_1 f0_on f0_trump f0_lead f0_played f0_firstWon f0_secondWon f0_steps f0_kind f0_entered a1 a2 a3 a4 a5 a6 a7 a8 a9 a10 a11 a12 a13 a14)) (qo_if (qo_le 12 p0) (qo_fz 4294967295 (fun rr_2 => k rr_2 f0_on f0_trump f0_lead f0_played f0_firstWon f0_secondWon f0_steps f0_kind f0_entered a1 a2 a3 a4 a5 a6 a7 a8 a9 a10 a11 a12 a13 a14)) (qo_if (qo_lt p1 4294967295) (qo_fz 4294967295 (fun rr_3 => k rr_3 f0_on f0_trump f0_lead f0_played f0_firstWon f0_secondWon f0_steps f0_kind f0_entered a1 a2 a3 a4 a5 a6 a7 a8 a9 a10 a11 a12 a13 a14)) (qo_if (qo_lt p1 4) (qo_if (qo_lt p1 0) (qm_deal_54 p0 p1 f0_trump f0_lead f0_played f0_firstWon f0_secondWon f0_steps f0_kind f0_entered k 5 0 0 a1 a2 a3 a4 a5 a6 a7 a8 a9 a10 a11 a12 a13 a14) (qo_nd (Nat.ble (Nat.succ p1) 4) (qo_fz (Nat.land (qo_gt a1 (qo_cl p1)) (Nat.xor (qo_sl 1 p0) 4294967295)) (fun y_6 => (qm_p_sizeOf y_6 (fun r_22 => (qo_if (qo_eq r_22 3) (qo_fz 4294967294 (fun rr_5 => k rr_5 f0_on f0_trump f0_lead f0_played f0_firstWon f0_secondWon f0_steps f0_kind f0_entered a1 a2 a3 a4 a5 a6 a7 a8 a9 a10 a11 a12 a13 a14)) (qm_deal_54 p0 p1 f0_trump f0_lead f0_played f0_firstWon f0_secondWon f0_steps f0_kind f0_entered k 5 0 0 a1 a2 a3 a4 a5 a6 a7 a8 a9 a10 a11 a12 a13 a14)))))))) (qo_fz 4294967295 (fun rr_7 => k rr_7 f0_on f0_trump f0_lead f0_played f0_firstWon f0_secondWon f0_steps f0_kind f0_entered a1 a2 a3 a4 a5 a6 a7 a8 a9 a10 a11 a12 a13 a14))))))
theorem qt_p_deal {post : Int32 → St2 → Prop} {f0_on : Nat} {f0_trump : Nat} {f0_lead : Nat} {f0_played : Nat} {f0_firstWon : Nat} {f0_secondWon : Nat} {f0_steps : Nat} {f0_kind : Nat} {f0_entered : Nat} {a1 : Nat} {a2 : Nat} {a3 : Nat} {a4 : Nat} {a5 : Nat} {a6 : Nat} {a7 : Nat} {a8 : Nat} {a9 : Nat} {a10 : Nat} {a11 : Nat} {a12 : Nat} {a13 : Nat} {a14 : Nat} {p0_i : Int32} {p0 : Nat} {p1_i : Int32} {p1 : Nat} {k : Nat → Nat → Nat → Nat → Nat → Nat → Nat → Nat → Nat → Nat → Nat → Nat → Nat → Nat → Nat → Nat → Nat → Nat → Nat → Nat → Nat → Nat → Nat → Nat → Bool} (e_p0 : p0_i = nI p0) (e_p1 : p1_i = nI p1) (hk : ∀ (r s0 s1 s2 s3 s4 s5 s6 s7 s8 s9 s10 s11 s12 s13 s14 s15 s16 s17 s18 s19 s20 s21 s22 : Nat), k r s0 s1 s2 s3 s4 s5 s6 s7 s8 s9 s10 s11 s12 s13 s14 s15 s16 s17 s18 s19 s20 s21 s22 = true → post (nI r) (nI s0, nI s1, nI s2, nI s3, nI s4, nI s5, nI s6, nI s7, nI s8, qo_ar s9, qo_ar s10, qo_ar s11, qo_ar s12, qo_ar s13, qo_ar s14, qo_ar s15, qo_ar s16, qo_ar s17, qo_ar s18, qo_ar s19, qo_ar s20, qo_aL s21, qo_ar s22)) (h : qm_p_deal f0_on f0_trump f0_lead f0_played f0_firstWon f0_secondWon f0_steps f0_kind f0_entered a1 a2 a3 a4 a5 a6 a7 a8 a9 a10 a11 a12 a13 a14 p0 p1 k = true) : wpX_deal post (nI f0_on, nI f0_trump, nI f0_lead, nI f0_played, nI f0_firstWon, nI f0_secondWon, nI f0_steps, nI f0_kind, nI f0_entered, qo_ar a1, qo_ar a2, qo_ar a3, qo_ar a4, qo_ar a5, qo_ar a6, qo_ar a7, qo_ar a8, qo_ar a9, qo_ar a10, qo_ar a11, qo_ar a12, qo_aL a13, qo_ar a14) p0_i p1_i := by
  subst e_p0
  subst e_p1
  unfold qm_p_deal at h
  unfold wpX_deal
  refine qo_br (qo_i_lt (qo_v p0) qo_k0) h (fun h => ?_) (fun h => ?_)
  · exact qo_pr qo_km1 h (fun rr_1 h => hk rr_1 f0_on f0_trump f0_lead f0_played f0_firstWon f0_secondWon f0_steps f0_kind f0_entered a1 a2 a3 a4 a5 a6 a7 a8 a9 a10 a11 a12 a13 a14 h)
  · refine qo_br (qo_i_le qo_k12 (qo_v p0)) h (fun h => ?_) (fun h => ?_)
    · exact qo_pr qo_km1 h (fun rr_2 h => hk rr_2 f0_on f0_trump f0_lead f0_played f0_firstWon f0_secondWon f0_steps f0_kind f0_entered a1 a2 a3 a4 a5 a6 a7 a8 a9 a10 a11 a12 a13 a14 h)
    · refine qo_br (qo_i_lt (qo_v p1) qo_km1) h (fun h => ?_) (fun h => ?_)
      · exact qo_pr qo_km1 h (fun rr_3 h => hk rr_3 f0_on f0_trump f0_lead f0_played f0_firstWon f0_secondWon f0_steps f0_kind f0_entered a1 a2 a3 a4 a5 a6 a7 a8 a9 a10 a11 a12 a13 a14 h)
      · refine qo_br (qo_i_lt (qo_v p1) qo_k4) h (fun h => ?_) (fun h => ?_)
        · refine qo_br (qo_i_lt (qo_v p1) qo_k0) h (fun h => ?_) (fun h => ?_)
          · exact ⟨5, qt_deal_54 (qo_v p0) (qo_v p1) hk _ qo_k0 qo_k0 h⟩
          · refine qo_in (by decide) (qo_v p1) h (fun hi_4 h => ?_)
            rw [qo_fz_e] at h
            refine qt_p_sizeOf (qo_e_an (qo_e_gt a1 (qo_v p1)) (qo_e_xo (qo_e_sl qo_k1 (qo_v p0)) qo_km1)) (fun r_22 h => ?_) h
            refine qo_br (qo_i_eq (qo_v r_22) qo_k3) h (fun h => ?_) (fun h => ?_)
            · exact qo_pr qo_km2 h (fun rr_5 h => hk rr_5 f0_on f0_trump f0_lead f0_played f0_firstWon f0_secondWon f0_steps f0_kind f0_entered a1 a2 a3 a4 a5 a6 a7 a8 a9 a10 a11 a12 a13 a14 h)
            · exact ⟨5, qt_deal_54 (qo_v p0) (qo_v p1) hk _ qo_k0 qo_k0 h⟩
        · exact qo_pr qo_km1 h (fun rr_7 h => hk rr_7 f0_on f0_trump f0_lead f0_played f0_firstWon f0_secondWon f0_steps f0_kind f0_entered a1 a2 a3 a4 a5 a6 a7 a8 a9 a10 a11 a12 a13 a14 h)
noncomputable def qm_p_mover (f0_lead f0_played : Nat) (k : Nat → Bool) : Bool := (qo_fz (Nat.land (qo_ad f0_lead f0_played) 3) k)
theorem qt_p_mover {post : Int32 → Prop} {f0_on : Int32} {f0_trump : Int32} {f0_lead : Nat} {f0_played : Nat} {f0_firstWon : Int32} {f0_secondWon : Int32} {f0_steps : Int32} {f0_kind : Int32} {f0_entered : Int32} {a1 : Nat → Int32} {a2 : Nat → Int32} {a3 : Nat → Int32} {a4 : Nat → Int32} {a5 : Nat → Int32} {a6 : Nat → Int32} {a7 : Nat → Int32} {a8 : Nat → Int32} {a9 : Nat → Int32} {a10 : Nat → Int32} {a11 : Nat → Int32} {a12 : Nat → Int32} {a13 : Nat → Int64} {a14 : Nat → Int32} {k : Nat → Bool} (hk : ∀ r : Nat, k r = true → post (nI r)) (h : qm_p_mover f0_lead f0_played k = true) : wpX_mover post (f0_on, f0_trump, nI f0_lead, nI f0_played, f0_firstWon, f0_secondWon, f0_steps, f0_kind, f0_entered, a1, a2, a3, a4, a5, a6, a7, a8, a9, a10, a11, a12, a13, a14) := by
  unfold qm_p_mover at h
  unfold wpX_mover
  exact qo_po (qo_e_an (qo_e_ad (qo_v f0_lead) (qo_v f0_played)) qo_k3) h hk
noncomputable def qm_p_toPlay (f0_on f0_lead f0_played a2 : Nat) (k : Nat → Bool) : Bool := (qo_if (qo_eq f0_on 0) (qo_fz 4294967293 k) (qm_p_mover f0_lead f0_played (fun r_2 => (qo_nd (Nat.ble (Nat.succ r_2) 4) (qo_if (qo_eq (qo_gt a2 (qo_cl r_2)) 0) (qo_fz 4294967292 k) (qm_p_mover f0_lead f0_played (fun r_5 => (k r_5))))))))
theorem qt_p_toPlay {post : Int32 → Prop} {f0_on : Nat} {f0_trump : Int32} {f0_lead : Nat} {f0_played : Nat} {f0_firstWon : Int32} {f0_secondWon : Int32} {f0_steps : Int32} {f0_kind : Int32} {f0_entered : Int32} {a1 : Nat → Int32} {a2 : Nat} {a3 : Nat → Int32} {a4 : Nat → Int32} {a5 : Nat → Int32} {a6 : Nat → Int32} {a7 : Nat → Int32} {a8 : Nat → Int32} {a9 : Nat → Int32} {a10 : Nat → Int32} {a11 : Nat → Int32} {a12 : Nat → Int32} {a13 : Nat → Int64} {a14 : Nat → Int32} {k : Nat → Bool} (hk : ∀ r : Nat, k r = true → post (nI r)) (h : qm_p_toPlay f0_on f0_lead f0_played a2 k = true) : wpX_toPlay post (nI f0_on, f0_trump, nI f0_lead, nI f0_played, f0_firstWon, f0_secondWon, f0_steps, f0_kind, f0_entered, a1, qo_ar a2, a3, a4, a5, a6, a7, a8, a9, a10, a11, a12, a13, a14) := by
  unfold qm_p_toPlay at h
  unfold wpX_toPlay
  refine qo_br (qo_i_eq (qo_v f0_on) qo_k0) h (fun h => ?_) (fun h => ?_)
  · exact qo_po qo_km3 h hk
  · refine qt_p_mover  (fun r_2 h => ?_) h
    refine qo_in (by decide) (qo_v r_2) h (fun hi_1 h => ?_)
    refine qo_br (qo_i_eq (qo_e_gt a2 (qo_v r_2)) qo_k0) h (fun h => ?_) (fun h => ?_)
    · exact qo_po qo_km4 h hk
    · refine qt_p_mover  (fun r_5 h => ?_) h
      exact hk r_5 h
noncomputable def qm_p_badPlayer (p0 : Nat) (k : Nat → Bool) : Bool := (qo_if (qo_lt p0 0) (qo_fz 1 k) (qo_if (qo_lt p0 4) (qo_fz 0 k) (qo_fz 1 k)))
theorem qt_p_badPlayer {post : Int32 → Prop} {f0_on : Int32} {f0_trump : Int32} {f0_lead : Int32} {f0_played : Int32} {f0_firstWon : Int32} {f0_secondWon : Int32} {f0_steps : Int32} {f0_kind : Int32} {f0_entered : Int32} {a1 : Nat → Int32} {a2 : Nat → Int32} {a3 : Nat → Int32} {a4 : Nat → Int32} {a5 : Nat → Int32} {a6 : Nat → Int32} {a7 : Nat → Int32} {a8 : Nat → Int32} {a9 : Nat → Int32} {a10 : Nat → Int32} {a11 : Nat → Int32} {a12 : Nat → Int32} {a13 : Nat → Int64} {a14 : Nat → Int32} {p0_i : Int32} {p0 : Nat} {k : Nat → Bool} (e_p0 : p0_i = nI p0) (hk : ∀ r : Nat, k r = true → post (nI r)) (h : qm_p_badPlayer p0 k = true) : wpX_badPlayer post (f0_on, f0_trump, f0_lead, f0_played, f0_firstWon, f0_secondWon, f0_steps, f0_kind, f0_entered, a1, a2, a3, a4, a5, a6, a7, a8, a9, a10, a11, a12, a13, a14) p0_i := by
  subst e_p0
  unfold qm_p_badPlayer at h
  unfold wpX_badPlayer
  refine qo_br (qo_i_lt (qo_v p0) qo_k0) h (fun h => ?_) (fun h => ?_)
  · exact qo_po qo_k1 h hk
  · refine qo_br (qo_i_lt (qo_v p0) qo_k4) h (fun h => ?_) (fun h => ?_)
    · exact qo_po qo_k0 h hk
    · exact qo_po qo_k1 h hk
noncomputable def qm_start_74_s (x1 x2 x3 f0_kind f0_entered : Nat) (k : Nat → Nat → Nat → Nat → Nat → Nat → Nat → Nat → Nat → Nat → Nat → Nat → Nat → Nat → Nat → Nat → Nat → Nat → Nat → Nat → Nat → Nat → Nat → Nat → Bool) (J : Nat → Nat → Nat → Nat → Nat → Nat → Nat → Nat → Nat → Nat → Nat → Nat → Nat → Nat → Nat → Bool) (x4 a1 a2 a3 a4 a5 a6 a7 a8 a9 a10 a11 a12 a13 a14 : Nat) : Bool := (qo_if (qo_le 4 x4) (k x3 1 x2 x1 0 0 0 0 f0_kind f0_entered a1 a2 a3 a4 a5 a6 a7 a8 a9 a10 a11 a12 a13 a14) (qo_nd (Nat.ble (Nat.succ x4) 4) (qo_fz (qo_st a2 (qo_cl x4) (qo_gt a1 (qo_cl x4))) (fun a2_11 => (qo_fz (qo_ad x4 1) (fun x4_12 => (J x4_12 a1 a2_11 a3 a4 a5 a6 a7 a8 a9 a10 a11 a12 a13 a14)))))))
noncomputable def qm_start_74 (x1 x2 x3 f0_kind f0_entered : Nat) (k : Nat → Nat → Nat → Nat → Nat → Nat → Nat → Nat → Nat → Nat → Nat → Nat → Nat → Nat → Nat → Nat → Nat → Nat → Nat → Nat → Nat → Nat → Nat → Nat → Bool) (n : Nat) : Nat → Nat → Nat → Nat → Nat → Nat → Nat → Nat → Nat → Nat → Nat → Nat → Nat → Nat → Nat → Bool := Nat.rec (motive := fun _ => Nat → Nat → Nat → Nat → Nat → Nat → Nat → Nat → Nat → Nat → Nat → Nat → Nat → Nat → Nat → Bool) (fun _ _ _ _ _ _ _ _ _ _ _ _ _ _ _ => false) (fun _ J => qm_start_74_s x1 x2 x3 f0_kind f0_entered k J) n
theorem qt_start_74 {post : Int32 → St2 → Prop} {x1_i : Int32} {x1 : Nat} {x2_i : Int32} {x2 : Nat} {x3_i : Int32} {x3 : Nat} {f0_on : Int32} {f0_trump : Int32} {f0_lead : Int32} {f0_played : Int32} {f0_firstWon : Int32} {f0_secondWon : Int32} {f0_steps : Int32} {f0_kind : Nat} {f0_entered : Nat} {k : Nat → Nat → Nat → Nat → Nat → Nat → Nat → Nat → Nat → Nat → Nat → Nat → Nat → Nat → Nat → Nat → Nat → Nat → Nat → Nat → Nat → Nat → Nat → Nat → Bool} (e_x1 : x1_i = nI x1) (e_x2 : x2_i = nI x2) (e_x3 : x3_i = nI x3) (hk : ∀ (r s0 s1 s2 s3 s4 s5 s6 s7 s8 s9 s10 s11 s12 s13 s14 s15 s16 s17 s18 s19 s20 s21 s22 : Nat), k r s0 s1 s2 s3 s4 s5 s6 s7 s8 s9 s10 s11 s12 s13 s14 s15 s16 s17 s18 s19 s20 s21 s22 = true → post (nI r) (nI s0, nI s1, nI s2, nI s3, nI s4, nI s5, nI s6, nI s7, nI s8, qo_ar s9, qo_ar s10, qo_ar s11, qo_ar s12, qo_ar s13, qo_ar s14, qo_ar s15, qo_ar s16, qo_ar s17, qo_ar s18, qo_ar s19, qo_ar s20, qo_aL s21, qo_ar s22)) : ∀ (n : Nat) {x4_i : Int32} {x4 : Nat} {a1 : Nat} {a2 : Nat} {a3 : Nat} {a4 : Nat} {a5 : Nat} {a6 : Nat} {a7 : Nat} {a8 : Nat} {a9 : Nat} {a10 : Nat} {a11 : Nat} {a12 : Nat} {a13 : Nat} {a14 : Nat} (e_x4 : x4_i = nI x4), qm_start_74 x1 x2 x3 f0_kind f0_entered k n x4 a1 a2 a3 a4 a5 a6 a7 a8 a9 a10 a11 a12 a13 a14 = true → wX_start_74 post x1_i x2_i x3_i f0_on f0_trump f0_lead f0_played f0_firstWon f0_secondWon f0_steps (nI f0_kind) (nI f0_entered) n x4_i (qo_ar a1) (qo_ar a2) (qo_ar a3) (qo_ar a4) (qo_ar a5) (qo_ar a6) (qo_ar a7) (qo_ar a8) (qo_ar a9) (qo_ar a10) (qo_ar a11) (qo_ar a12) (qo_aL a13) (qo_ar a14) := by
  subst e_x1
  subst e_x2
  subst e_x3
  intro n
  induction n with
  | zero =>
    intros
    exact qo_no (by assumption)
  | succ n ih =>
    intro x4_i x4 a1 a2 a3 a4 a5 a6 a7 a8 a9 a10 a11 a12 a13 a14 e_x4 h
    subst e_x4
    replace h : qm_start_74_s x1 x2 x3 f0_kind f0_entered k (qm_start_74 x1 x2 x3 f0_kind f0_entered k n) x4 a1 a2 a3 a4 a5 a6 a7 a8 a9 a10 a11 a12 a13 a14 = true := h
    unfold qm_start_74_s at h
    refine qo_br (qo_i_le qo_k4 (qo_v x4)) h (fun h => ?_) (fun h => ?_)
    · exact hk x3 1 x2 x1 0 0 0 0 f0_kind f0_entered a1 a2 a3 a4 a5 a6 a7 a8 a9 a10 a11 a12 a13 a14 h
    · refine qo_in (by decide) (qo_v x4) h (fun hi_1 h => ?_)
      refine ⟨hi_1, ?_⟩
      refine qo_nA (qo_e_st a2 (qo_v x4) (qo_e_gt a1 (qo_v x4))) h (fun a2_11 h => ?_)
      refine qo_nm (qo_e_ad (qo_v x4) qo_k1) h (fun x4_12 h => ?_)
      exact ih (qo_v x4_12) h
noncomputable def qm_start_34_s (x1 x2 x3 f0_on f0_trump f0_lead f0_played f0_firstWon f0_secondWon f0_steps f0_kind f0_entered a1 a2 a3 a4 a5 a6 a7 a8 a9 a10 a11 a12 a13 a14 : Nat) (k : Nat → Nat → Nat → Nat → Nat → Nat → Nat → Nat → Nat → Nat → Nat → Nat → Nat → Nat → Nat → Nat → Nat → Nat → Nat → Nat → Nat → Nat → Nat → Nat → Bool) (J : Nat → Bool) (x4 : Nat) : Bool := (qo_if (qo_le 4 x4) (qo_if (qo_eq x3 0) (qo_fz 4294967292 (fun rr_1 => k rr_1 f0_on f0_trump f0_lead f0_played f0_firstWon f0_secondWon f0_steps f0_kind f0_entered a1 a2 a3 a4 a5 a6 a7 a8 a9 a10 a11 a12 a13 a14)) (qm_start_74 x1 x2 x3 f0_kind f0_entered k 5 0 a1 a2 a3 a4 a5 a6 a7 a8 a9 a10 a11 a12 a13 a14)) (qo_nd (Nat.ble (Nat.succ x4) 4) (qo_fz (qo_gt a1 (qo_cl x4)) (fun y_4 => (qm_p_sizeOf y_4 (fun r_14 => (qo_if (qo_eq r_14 x3) (qo_fz (qo_ad x4 1) (fun x4_16 => (J x4_16))) (qo_fz 4294967292 (fun rr_3 => k rr_3 f0_on f0_trump f0_lead f0_played f0_firstWon f0_secondWon f0_steps f0_kind f0_entered a1 a2 a3 a4 a5 a6 a7 a8 a9 a10 a11 a12 a13 a14)))))))))
noncomputable def qm_start_34 (x1 x2 x3 f0_on f0_trump f0_lead f0_played f0_firstWon f0_secondWon f0_steps f0_kind f0_entered a1 a2 a3 a4 a5 a6 a7 a8 a9 a10 a11 a12 a13 a14 : Nat) (k : Nat → Nat → Nat → Nat → Nat → Nat → Nat → Nat → Nat → Nat → Nat → Nat → Nat → Nat → Nat → Nat → Nat → Nat → Nat → Nat → Nat → Nat → Nat → Nat → Bool) (n : Nat) : Nat → Bool := Nat.rec (motive := fun _ => Nat → Bool) (fun _ => false) (fun _ J => qm_start_34_s x1 x2 x3 f0_on f0_trump f0_lead f0_played f0_firstWon f0_secondWon f0_steps f0_kind f0_entered a1 a2 a3 a4 a5 a6 a7 a8 a9 a10 a11 a12 a13 a14 k J) n
theorem qt_start_34 {post : Int32 → St2 → Prop} {x1_i : Int32} {x1 : Nat} {x2_i : Int32} {x2 : Nat} {x3_i : Int32} {x3 : Nat} {f0_on : Nat} {f0_trump : Nat} {f0_lead : Nat} {f0_played : Nat} {f0_firstWon : Nat} {f0_secondWon : Nat} {f0_steps : Nat} {f0_kind : Nat} {f0_entered : Nat} {a1 : Nat} {a2 : Nat} {a3 : Nat} {a4 : Nat} {a5 : Nat} {a6 : Nat} {a7 : Nat} {a8 : Nat} {a9 : Nat} {a10 : Nat} {a11 : Nat} {a12 : Nat} {a13 : Nat} {a14 : Nat} {k : Nat → Nat → Nat → Nat → Nat → Nat → Nat → Nat → Nat → Nat → Nat → Nat → Nat → Nat → Nat → Nat → Nat → Nat → Nat → Nat → Nat → Nat → Nat → Nat → Bool} (e_x1 : x1_i = nI x1) (e_x2 : x2_i = nI x2) (e_x3 : x3_i = nI x3) (hk : ∀ (r s0 s1 s2 s3 s4 s5 s6 s7 s8 s9 s10 s11 s12 s13 s14 s15 s16 s17 s18 s19 s20 s21 s22 : Nat), k r s0 s1 s2 s3 s4 s5 s6 s7 s8 s9 s10 s11 s12 s13 s14 s15 s16 s17 s18 s19 s20 s21 s22 = true → post (nI r) (nI s0, nI s1, nI s2, nI s3, nI s4, nI s5, nI s6, nI s7, nI s8, qo_ar s9, qo_ar s10, qo_ar s11, qo_ar s12, qo_ar s13, qo_ar s14, qo_ar s15, qo_ar s16, qo_ar s17, qo_ar s18, qo_ar s19, qo_ar s20, qo_aL s21, qo_ar s22)) : ∀ (n : Nat) {x4_i : Int32} {x4 : Nat} (e_x4 : x4_i = nI x4), qm_start_34 x1 x2 x3 f0_on f0_trump f0_lead f0_played f0_firstWon f0_secondWon f0_steps f0_kind f0_entered a1 a2 a3 a4 a5 a6 a7 a8 a9 a10 a11 a12 a13 a14 k n x4 = true → wX_start_34 post x1_i x2_i x3_i (nI f0_on) (nI f0_trump) (nI f0_lead) (nI f0_played) (nI f0_firstWon) (nI f0_secondWon) (nI f0_steps) (nI f0_kind) (nI f0_entered) (qo_ar a1) (qo_ar a2) (qo_ar a3) (qo_ar a4) (qo_ar a5) (qo_ar a6) (qo_ar a7) (qo_ar a8) (qo_ar a9) (qo_ar a10) (qo_ar a11) (qo_ar a12) (qo_aL a13) (qo_ar a14) n x4_i := by
  subst e_x1
  subst e_x2
  subst e_x3
  intro n
  induction n with
  | zero =>
    intros
    exact qo_no (by assumption)
  | succ n ih =>
    intro x4_i x4 e_x4 h
    subst e_x4
    replace h : qm_start_34_s x1 x2 x3 f0_on f0_trump f0_lead f0_played f0_firstWon f0_secondWon f0_steps f0_kind f0_entered a1 a2 a3 a4 a5 a6 a7 a8 a9 a10 a11 a12 a13 a14 k (qm_start_34 x1 x2 x3 f0_on f0_trump f0_lead f0_played f0_firstWon f0_secondWon f0_steps f0_kind f0_entered a1 a2 a3 a4 a5 a6 a7 a8 a9 a10 a11 a12 a13 a14 k n) x4 = true := h
    unfold qm_start_34_s at h
    refine qo_br (qo_i_le qo_k4 (qo_v x4)) h (fun h => ?_) (fun h => ?_)
    · refine qo_br (qo_i_eq (qo_v x3) qo_k0) h (fun h => ?_) (fun h => ?_)
      · exact qo_pr qo_km4 h (fun rr_1 h => hk rr_1 f0_on f0_trump f0_lead f0_played f0_firstWon f0_secondWon f0_steps f0_kind f0_entered a1 a2 a3 a4 a5 a6 a7 a8 a9 a10 a11 a12 a13 a14 h)
      · exact ⟨5, qt_start_74 (qo_v x1) (qo_v x2) (qo_v x3) hk _ qo_k0 h⟩
    · refine qo_in (by decide) (qo_v x4) h (fun hi_2 h => ?_)
      rw [qo_fz_e] at h
      refine qt_p_sizeOf (qo_e_gt a1 (qo_v x4)) (fun r_14 h => ?_) h
      refine qo_br (qo_i_eq (qo_v r_14) (qo_v x3)) h (fun h => ?_) (fun h => ?_)
      · refine qo_nm (qo_e_ad (qo_v x4) qo_k1) h (fun x4_16 h => ?_)
        exact ih (qo_v x4_16) h
      · exact qo_pr qo_km4 h (fun rr_3 h => hk rr_3 f0_on f0_trump f0_lead f0_played f0_firstWon f0_secondWon f0_steps f0_kind f0_entered a1 a2 a3 a4 a5 a6 a7 a8 a9 a10 a11 a12 a13 a14 h)
noncomputable def qm_p_start (f0_on f0_trump f0_lead f0_played f0_firstWon f0_secondWon f0_steps f0_kind f0_entered a1 a2 a3 a4 a5 a6 a7 a8 a9 a10 a11 a12 a13 a14 p0 p1 : Nat) (k : Nat → Nat → Nat → Nat → Nat → Nat → Nat → Nat → Nat → Nat → Nat → Nat → Nat → Nat → Nat → Nat → Nat → Nat → Nat → Nat → Nat → Nat → Nat → Nat → Bool) : Bool := (qm_p_badPlayer p0 (fun r_1 => (qo_if (qo_eq r_1 0) (qo_if (qo_lt p1 4294967295) (qo_fz 4294967295 (fun rr_1 => k rr_1 f0_on f0_trump f0_lead f0_played f0_firstWon f0_secondWon f0_steps f0_kind f0_entered a1 a2 a3 a4 a5 a6 a7 a8 a9 a10 a11 a12 a13 a14)) (qo_if (qo_le p1 2) (qo_fz (qo_gt a1 0) (fun y_2 => (qm_p_sizeOf y_2 (fun r_5 => (qm_start_34 p0 p1 r_5 f0_on f0_trump f0_lead f0_played f0_firstWon f0_secondWon f0_steps f0_kind f0_entered a1 a2 a3 a4 a5 a6 a7 a8 a9 a10 a11 a12 a13 a14 k 5 1))))) (qo_fz 4294967295 (fun rr_3 => k rr_3 f0_on f0_trump f0_lead f0_played f0_firstWon f0_secondWon f0_steps f0_kind f0_entered a1 a2 a3 a4 a5 a6 a7 a8 a9 a10 a11 a12 a13 a14)))) (qo_fz 4294967295 (fun rr_4 => k rr_4 f0_on f0_trump f0_lead f0_played f0_firstWon f0_secondWon f0_steps f0_kind f0_entered a1 a2 a3 a4 a5 a6 a7 a8 a9 a10 a11 a12 a13 a14)))))
theorem qt_p_start {post : Int32 → St2 → Prop} {f0_on : Nat} {f0_trump : Nat} {f0_lead : Nat} {f0_played : Nat} {f0_firstWon : Nat} {f0_secondWon : Nat} {f0_steps : Nat} {f0_kind : Nat} {f0_entered : Nat} {a1 : Nat} {a2 : Nat} {a3 : Nat} {a4 : Nat} {a5 : Nat} {a6 : Nat} {a7 : Nat} {a8 : Nat} {a9 : Nat} {a10 : Nat} {a11 : Nat} {a12 : Nat} {a13 : Nat} {a14 : Nat} {p0_i : Int32} {p0 : Nat} {p1_i : Int32} {p1 : Nat} {k : Nat → Nat → Nat → Nat → Nat → Nat → Nat → Nat → Nat → Nat → Nat → Nat → Nat → Nat → Nat → Nat → Nat → Nat → Nat → Nat → Nat → Nat → Nat → Nat → Bool} (e_p0 : p0_i = nI p0) (e_p1 : p1_i = nI p1) (hk : ∀ (r s0 s1 s2 s3 s4 s5 s6 s7 s8 s9 s10 s11 s12 s13 s14 s15 s16 s17 s18 s19 s20 s21 s22 : Nat), k r s0 s1 s2 s3 s4 s5 s6 s7 s8 s9 s10 s11 s12 s13 s14 s15 s16 s17 s18 s19 s20 s21 s22 = true → post (nI r) (nI s0, nI s1, nI s2, nI s3, nI s4, nI s5, nI s6, nI s7, nI s8, qo_ar s9, qo_ar s10, qo_ar s11, qo_ar s12, qo_ar s13, qo_ar s14, qo_ar s15, qo_ar s16, qo_ar s17, qo_ar s18, qo_ar s19, qo_ar s20, qo_aL s21, qo_ar s22)) (h : qm_p_start f0_on f0_trump f0_lead f0_played f0_firstWon f0_secondWon f0_steps f0_kind f0_entered a1 a2 a3 a4 a5 a6 a7 a8 a9 a10 a11 a12 a13 a14 p0 p1 k = true) : wpX_start post (nI f0_on, nI f0_trump, nI f0_lead, nI f0_played, nI f0_firstWon, nI f0_secondWon, nI f0_steps, nI f0_kind, nI f0_entered, qo_ar a1, qo_ar a2, qo_ar a3, qo_ar a4, qo_ar a5, qo_ar a6, qo_ar a7, qo_ar a8, qo_ar a9, qo_ar a10, qo_ar a11, qo_ar a12, qo_aL a13, qo_ar a14) p0_i p1_i := by
  subst e_p0
  subst e_p1
  unfold qm_p_start at h
  unfold wpX_start
  refine qt_p_badPlayer (qo_v p0) (fun r_1 h => ?_) h
  refine qo_br (qo_i_eq (qo_v r_1) qo_k0) h (fun h => ?_) (fun h => ?_)
  · refine qo_br (qo_i_lt (qo_v p1) qo_km1) h (fun h => ?_) (fun h => ?_)
    · exact qo_pr qo_km1 h (fun rr_1 h => hk rr_1 f0_on f0_trump f0_lead f0_played f0_firstWon f0_secondWon f0_steps f0_kind f0_entered a1 a2 a3 a4 a5 a6 a7 a8 a9 a10 a11 a12 a13 a14 h)
    · refine qo_br (qo_i_le (qo_v p1) qo_k2) h (fun h => ?_) (fun h => ?_)
      · rw [qo_fz_e] at h
        refine qt_p_sizeOf (qo_e_g0 a1 0) (fun r_5 h => ?_) h
        exact ⟨5, qt_start_34 (qo_v p0) (qo_v p1) (qo_v r_5) hk _ qo_k1 h⟩
      · exact qo_pr qo_km1 h (fun rr_3 h => hk rr_3 f0_on f0_trump f0_lead f0_played f0_firstWon f0_secondWon f0_steps f0_kind f0_entered a1 a2 a3 a4 a5 a6 a7 a8 a9 a10 a11 a12 a13 a14 h)
  · exact qo_pr qo_km1 h (fun rr_4 h => hk rr_4 f0_on f0_trump f0_lead f0_played f0_firstWon f0_secondWon f0_steps f0_kind f0_entered a1 a2 a3 a4 a5 a6 a7 a8 a9 a10 a11 a12 a13 a14 h)
noncomputable def qm_p_hand (a2 p0 : Nat) (k : Nat → Bool) : Bool := (qm_p_badPlayer p0 (fun r_1 => (qo_if (qo_eq r_1 0) (qo_nd (Nat.ble (Nat.succ p0) 4) (qo_fz (qo_gt a2 (qo_cl p0)) k)) (qo_fz 4294967295 k))))
theorem qt_p_hand {post : Int32 → Prop} {f0_on : Int32} {f0_trump : Int32} {f0_lead : Int32} {f0_played : Int32} {f0_firstWon : Int32} {f0_secondWon : Int32} {f0_steps : Int32} {f0_kind : Int32} {f0_entered : Int32} {a1 : Nat → Int32} {a2 : Nat} {a3 : Nat → Int32} {a4 : Nat → Int32} {a5 : Nat → Int32} {a6 : Nat → Int32} {a7 : Nat → Int32} {a8 : Nat → Int32} {a9 : Nat → Int32} {a10 : Nat → Int32} {a11 : Nat → Int32} {a12 : Nat → Int32} {a13 : Nat → Int64} {a14 : Nat → Int32} {p0_i : Int32} {p0 : Nat} {k : Nat → Bool} (e_p0 : p0_i = nI p0) (hk : ∀ r : Nat, k r = true → post (nI r)) (h : qm_p_hand a2 p0 k = true) : wpX_hand post (f0_on, f0_trump, f0_lead, f0_played, f0_firstWon, f0_secondWon, f0_steps, f0_kind, f0_entered, a1, qo_ar a2, a3, a4, a5, a6, a7, a8, a9, a10, a11, a12, a13, a14) p0_i := by
  subst e_p0
  unfold qm_p_hand at h
  unfold wpX_hand
  refine qt_p_badPlayer (qo_v p0) (fun r_1 h => ?_) h
  refine qo_br (qo_i_eq (qo_v r_1) qo_k0) h (fun h => ?_) (fun h => ?_)
  · refine qo_in (by decide) (qo_v p0) h (fun hi_1 h => ?_)
    exact qo_po (qo_e_gt a2 (qo_v p0)) h hk
  · exact qo_po qo_km1 h hk
noncomputable def qm_pop_74_s (x1 f0_on f0_trump f0_lead f0_played f0_firstWon f0_secondWon f0_steps f0_kind f0_entered : Nat) (k : Nat → Nat → Nat → Nat → Nat → Nat → Nat → Nat → Nat → Nat → Nat → Nat → Nat → Nat → Nat → Nat → Nat → Nat → Nat → Nat → Nat → Nat → Nat → Nat → Bool) (J : Nat → Nat → Nat → Nat → Nat → Nat → Nat → Nat → Nat → Nat → Nat → Nat → Nat → Nat → Nat → Bool) (x2 a1 a2 a3 a4 a5 a6 a7 a8 a9 a10 a11 a12 a13 a14 : Nat) : Bool := (qo_if (qo_le 4 x2) (qm_p_mover f0_lead f0_played (fun r_13 => (qo_nd (Nat.ble (Nat.succ r_13) 4) (qo_fz (qo_st a2 (qo_cl r_13) (Nat.lor (qo_gt a2 (qo_cl r_13)) (qo_sl 1 x1))) (fun a2_16 => (k x1 f0_on f0_trump f0_lead f0_played f0_firstWon f0_secondWon f0_steps f0_kind f0_entered a1 a2_16 a3 a4 a5 a6 a7 a8 a9 a10 a11 a12 a13 a14)))))) (qo_nd (Nat.ble (Nat.succ (qo_ad (qo_mu 4 f0_steps) x2)) 52) (qo_nd (Nat.ble (Nat.succ x2) 4) (qo_fz (qo_st a3 (qo_cl x2) (qo_gt a6 (qo_cl (qo_ad (qo_mu 4 f0_steps) x2)))) (fun a3_19 => (qo_fz (qo_ad x2 1) (fun x2_20 => (J x2_20 a1 a2 a3_19 a4 a5 a6 a7 a8 a9 a10 a11 a12 a13 a14))))))))
noncomputable def qm_pop_74 (x1 f0_on f0_trump f0_lead f0_played f0_firstWon f0_secondWon f0_steps f0_kind f0_entered : Nat) (k : Nat → Nat → Nat → Nat → Nat → Nat → Nat → Nat → Nat → Nat → Nat → Nat → Nat → Nat → Nat → Nat → Nat → Nat → Nat → Nat → Nat → Nat → Nat → Nat → Bool) (n : Nat) : Nat → Nat → Nat → Nat → Nat → Nat → Nat → Nat → Nat → Nat → Nat → Nat → Nat → Nat → Nat → Bool := Nat.rec (motive := fun _ => Nat → Nat → Nat → Nat → Nat → Nat → Nat → Nat → Nat → Nat → Nat → Nat → Nat → Nat → Nat → Bool) (fun _ _ _ _ _ _ _ _ _ _ _ _ _ _ _ => false) (fun _ J => qm_pop_74_s x1 f0_on f0_trump f0_lead f0_played f0_firstWon f0_secondWon f0_steps f0_kind f0_entered k J) n
theorem qt_pop_74 {post : Int32 → St2 → Prop} {x1_i : Int32} {x1 : Nat} {f0_on : Nat} {f0_trump : Nat} {f0_lead : Nat} {f0_played : Nat} {f0_firstWon : Nat} {f0_secondWon : Nat} {f0_steps : Nat} {f0_kind : Nat} {f0_entered : Nat} {k : Nat → Nat → Nat → Nat → Nat → Nat → Nat → Nat → Nat → Nat → Nat → Nat → Nat → Nat → Nat → Nat → Nat → Nat → Nat → Nat → Nat → Nat → Nat → Nat → Bool} (e_x1 : x1_i = nI x1) (hk : ∀ (r s0 s1 s2 s3 s4 s5 s6 s7 s8 s9 s10 s11 s12 s13 s14 s15 s16 s17 s18 s19 s20 s21 s22 : Nat), k r s0 s1 s2 s3 s4 s5 s6 s7 s8 s9 s10 s11 s12 s13 s14 s15 s16 s17 s18 s19 s20 s21 s22 = true → post (nI r) (nI s0, nI s1, nI s2, nI s3, nI s4, nI s5, nI s6, nI s7, nI s8, qo_ar s9, qo_ar s10, qo_ar s11, qo_ar s12, qo_ar s13, qo_ar s14, qo_ar s15, qo_ar s16, qo_ar s17, qo_ar s18, qo_ar s19, qo_ar s20, qo_aL s21, qo_ar s22)) : ∀ (n : Nat) {x2_i : Int32} {x2 : Nat} {a1 : Nat} {a2 : Nat} {a3 : Nat} {a4 : Nat} {a5 : Nat} {a6 : Nat} {a7 : Nat} {a8 : Nat} {a9 : Nat} {a10 : Nat} {a11 : Nat} {a12 : Nat} {a13 : Nat} {a14 : Nat} (e_x2 : x2_i = nI x2), qm_pop_74 x1 f0_on f0_trump f0_lead f0_played f0_firstWon f0_secondWon f0_steps f0_kind f0_entered k n x2 a1 a2 a3 a4 a5 a6 a7 a8 a9 a10 a11 a12 a13 a14 = true → wX_pop_74 post x1_i (nI f0_on) (nI f0_trump) (nI f0_lead) (nI f0_played) (nI f0_firstWon) (nI f0_secondWon) (nI f0_steps) (nI f0_kind) (nI f0_entered) n x2_i (qo_ar a1) (qo_ar a2) (qo_ar a3) (qo_ar a4) (qo_ar a5) (qo_ar a6) (qo_ar a7) (qo_ar a8) (qo_ar a9) (qo_ar a10) (qo_ar a11) (qo_ar a12) (qo_aL a13) (qo_ar a14) := by
  subst e_x1
  intro n
  induction n with
  | zero =>
    intros
    exact qo_no (by assumption)
  | succ n ih =>
    intro x2_i x2 a1 a2 a3 a4 a5 a6 a7 a8 a9 a10 a11 a12 a13 a14 e_x2 h
    subst e_x2
    replace h : qm_pop_74_s x1 f0_on f0_trump f0_lead f0_played f0_firstWon f0_secondWon f0_steps f0_kind f0_entered k (qm_pop_74 x1 f0_on f0_trump f0_lead f0_played f0_firstWon f0_secondWon f0_steps f0_kind f0_entered k n) x2 a1 a2 a3 a4 a5 a6 a7 a8 a9 a10 a11 a12 a13 a14 = true := h
    unfold qm_pop_74_s at h
    refine qo_br (qo_i_le qo_k4 (qo_v x2)) h (fun h => ?_) (fun h => ?_)
    · refine qt_p_mover  (fun r_13 h => ?_) h
      refine qo_in (by decide) (qo_v r_13) h (fun hi_1 h => ?_)
      refine ⟨hi_1, ?_⟩
      refine qo_nA (qo_e_st a2 (qo_v r_13) (qo_e_or (qo_e_gt a2 (qo_v r_13)) (qo_e_sl qo_k1 (qo_v x1)))) h (fun a2_16 h => ?_)
      exact hk x1 f0_on f0_trump f0_lead f0_played f0_firstWon f0_secondWon f0_steps f0_kind f0_entered a1 a2_16 a3 a4 a5 a6 a7 a8 a9 a10 a11 a12 a13 a14 h
    · refine qo_in (by decide) (qo_e_ad (qo_e_mu qo_k4 (qo_v f0_steps)) (qo_v x2)) h (fun hi_2 h => ?_)
      refine qo_in (by decide) (qo_v x2) h (fun hi_3 h => ?_)
      refine qo_nA (qo_e_st a3 (qo_v x2) (qo_e_gt a6 (qo_e_ad (qo_e_mu qo_k4 (qo_v f0_steps)) (qo_v x2)))) h (fun a3_19 h => ?_)
      refine qo_nm (qo_e_ad (qo_v x2) qo_k1) h (fun x2_20 h => ?_)
      exact ih (qo_v x2_20) h
noncomputable def qm_p_pop (f0_on f0_trump f0_steps f0_kind f0_entered a1 a2 a3 a4 a5 a6 a7 a8 a9 a10 a11 a12 a13 a14 : Nat) (k : Nat → Nat → Nat → Nat → Nat → Nat → Nat → Nat → Nat → Nat → Nat → Nat → Nat → Nat → Nat → Nat → Nat → Nat → Nat → Nat → Nat → Nat → Nat → Nat → Bool) : Bool := (qo_fz (qo_su f0_steps 1) (fun f_1 => (qo_nd (Nat.ble (Nat.succ f_1) 13) (qo_fz (qo_gt a4 (qo_cl f_1)) (fun x1_3 => (qo_fz (qo_gt a5 (qo_cl f_1)) (fun f_5 => (qo_fz (qo_gt a7 (qo_cl f_1)) (fun f_7 => (qo_fz (qo_gt a8 (qo_cl f_1)) (fun f_9 => (qo_fz (qo_gt a9 (qo_cl f_1)) (fun f_11 => (qm_pop_74 x1_3 f0_on f0_trump f_5 f_7 f_9 f_11 f_1 f0_kind f0_entered k 5 0 a1 a2 a3 a4 a5 a6 a7 a8 a9 a10 a11 a12 a13 a14))))))))))))))
theorem qt_p_pop {post : Int32 → St2 → Prop} {f0_on : Nat} {f0_trump : Nat} {f0_lead : Int32} {f0_played : Int32} {f0_firstWon : Int32} {f0_secondWon : Int32} {f0_steps : Nat} {f0_kind : Nat} {f0_entered : Nat} {a1 : Nat} {a2 : Nat} {a3 : Nat} {a4 : Nat} {a5 : Nat} {a6 : Nat} {a7 : Nat} {a8 : Nat} {a9 : Nat} {a10 : Nat} {a11 : Nat} {a12 : Nat} {a13 : Nat} {a14 : Nat} {k : Nat → Nat → Nat → Nat → Nat → Nat → Nat → Nat → Nat → Nat → Nat → Nat → Nat → Nat → Nat → Nat → Nat → Nat → Nat → Nat → Nat → Nat → Nat → Nat → Bool} (hk : ∀ (r s0 s1 s2 s3 s4 s5 s6 s7 s8 s9 s10 s11 s12 s13 s14 s15 s16 s17 s18 s19 s20 s21 s22 : Nat), k r s0 s1 s2 s3 s4 s5 s6 s7 s8 s9 s10 s11 s12 s13 s14 s15 s16 s17 s18 s19 s20 s21 s22 = true → post (nI r) (nI s0, nI s1, nI s2, nI s3, nI s4, nI s5, nI s6, nI s7, nI s8, qo_ar s9, qo_ar s10, qo_ar s11, qo_ar s12, qo_ar s13, qo_ar s14, qo_ar s15, qo_ar s16, qo_ar s17, qo_ar s18, qo_ar s19, qo_ar s20, qo_aL s21, qo_ar s22)) (h : qm_p_pop f0_on f0_trump f0_steps f0_kind f0_entered a1 a2 a3 a4 a5 a6 a7 a8 a9 a10 a11 a12 a13 a14 k = true) : wpX_pop post (nI f0_on, nI f0_trump, f0_lead, f0_played, f0_firstWon, f0_secondWon, nI f0_steps, nI f0_kind, nI f0_entered, qo_ar a1, qo_ar a2, qo_ar a3, qo_ar a4, qo_ar a5, qo_ar a6, qo_ar a7, qo_ar a8, qo_ar a9, qo_ar a10, qo_ar a11, qo_ar a12, qo_aL a13, qo_ar a14) := by
  unfold qm_p_pop at h
  unfold wpX_pop
  refine qo_nm (qo_e_su (qo_v f0_steps) qo_k1) h (fun f_1 h => ?_)
  refine qo_in (by decide) (qo_v f_1) h (fun hi_1 h => ?_)
  refine qo_nm (qo_e_gt a4 (qo_v f_1)) h (fun x1_3 h => ?_)
  refine ⟨hi_1, ?_⟩
  refine qo_nm (qo_e_gt a5 (qo_v f_1)) h (fun f_5 h => ?_)
  refine ⟨hi_1, ?_⟩
  refine qo_nm (qo_e_gt a7 (qo_v f_1)) h (fun f_7 h => ?_)
  refine ⟨hi_1, ?_⟩
  refine qo_nm (qo_e_gt a8 (qo_v f_1)) h (fun f_9 h => ?_)
  refine ⟨hi_1, ?_⟩
  refine qo_nm (qo_e_gt a9 (qo_v f_1)) h (fun f_11 h => ?_)
  exact ⟨5, qt_pop_74 (qo_v x1_3) hk _ qo_k0 h⟩
noncomputable def qm_p_undo (f0_on f0_trump f0_lead f0_played f0_firstWon f0_secondWon f0_steps f0_kind f0_entered a1 a2 a3 a4 a5 a6 a7 a8 a9 a10 a11 a12 a13 a14 : Nat) (k : Nat → Nat → Nat → Nat → Nat → Nat → Nat → Nat → Nat → Nat → Nat → Nat → Nat → Nat → Nat → Nat → Nat → Nat → Nat → Nat → Nat → Nat → Nat → Nat → Bool) : Bool := (qo_if (qo_eq f0_on 0) (qo_fz 4294967293 (fun rr_1 => k rr_1 f0_on f0_trump f0_lead f0_played f0_firstWon f0_secondWon f0_steps f0_kind f0_entered a1 a2 a3 a4 a5 a6 a7 a8 a9 a10 a11 a12 a13 a14)) (qo_if (qo_eq f0_steps 0) (qo_fz 4294967292 (fun rr_2 => k rr_2 f0_on f0_trump f0_lead f0_played f0_firstWon f0_secondWon f0_steps f0_kind f0_entered a1 a2 a3 a4 a5 a6 a7 a8 a9 a10 a11 a12 a13 a14)) (qm_p_pop f0_on f0_trump f0_steps f0_kind f0_entered a1 a2 a3 a4 a5 a6 a7 a8 a9 a10 a11 a12 a13 a14 (fun r_3 f0_on_4 f0_trump_5 f0_lead_6 f0_played_7 f0_firstWon_8 f0_secondWon_9 f0_steps_10 f0_kind_11 f0_entered_12 am231_15 am232_18 am233_21 am234_24 am235_27 am236_30 am237_33 am238_36 am239_39 am2310_42 am2311_45 am2312_48 am2313_51 am2314_54 => (k r_3 f0_on_4 f0_trump_5 f0_lead_6 f0_played_7 f0_firstWon_8 f0_secondWon_9 f0_steps_10 f0_kind_11 f0_entered_12 am231_15 am232_18 am233_21 am234_24 am235_27 am236_30 am237_33 am238_36 am239_39 am2310_42 am2311_45 am2312_48 am2313_51 am2314_54)))))
theorem qt_p_undo {post : Int32 → St2 → Prop} {f0_on : Nat} {f0_trump : Nat} {f0_lead : Nat} {f0_played : Nat} {f0_firstWon : Nat} {f0_secondWon : Nat} {f0_steps : Nat} {f0_kind : Nat} {f0_entered : Nat} {a1 : Nat} {a2 : Nat} {a3 : Nat} {a4 : Nat} {a5 : Nat} {a6 : Nat} {a7 : Nat} {a8 : Nat} {a9 : Nat} {a10 : Nat} {a11 : Nat} {a12 : Nat} {a13 : Nat} {a14 : Nat} {k : Nat → Nat → Nat → Nat → Nat → Nat → Nat → Nat → Nat → Nat → Nat → Nat → Nat → Nat → Nat → Nat → Nat → Nat → Nat → Nat → Nat → Nat → Nat → Nat → Bool} (hk : ∀ (r s0 s1 s2 s3 s4 s5 s6 s7 s8 s9 s10 s11 s12 s13 s14 s15 s16 s17 s18 s19 s20 s21 s22 : Nat), k r s0 s1 s2 s3 s4 s5 s6 s7 s8 s9 s10 s11 s12 s13 s14 s15 s16 s17 s18 s19 s20 s21 s22 = true → post (nI r) (nI s0, nI s1, nI s2, nI s3, nI s4, nI s5, nI s6, nI s7, nI s8, qo_ar s9, qo_ar s10, qo_ar s11, qo_ar s12, qo_ar s13, qo_ar s14, qo_ar s15, qo_ar s16, qo_ar s17, qo_ar s18, qo_ar s19, qo_ar s20, qo_aL s21, qo_ar s22)) (h : qm_p_undo f0_on f0_trump f0_lead f0_played f0_firstWon f0_secondWon f0_steps f0_kind f0_entered a1 a2 a3 a4 a5 a6 a7 a8 a9 a10 a11 a12 a13 a14 k = true) : wpX_undo post (nI f0_on, nI f0_trump, nI f0_lead, nI f0_played, nI f0_firstWon, nI f0_secondWon, nI f0_steps, nI f0_kind, nI f0_entered, qo_ar a1, qo_ar a2, qo_ar a3, qo_ar a4, qo_ar a5, qo_ar a6, qo_ar a7, qo_ar a8, qo_ar a9, qo_ar a10, qo_ar a11, qo_ar a12, qo_aL a13, qo_ar a14) := by
  unfold qm_p_undo at h
  unfold wpX_undo
  refine qo_br (qo_i_eq (qo_v f0_on) qo_k0) h (fun h => ?_) (fun h => ?_)
  · exact qo_pr qo_km3 h (fun rr_1 h => hk rr_1 f0_on f0_trump f0_lead f0_played f0_firstWon f0_secondWon f0_steps f0_kind f0_entered a1 a2 a3 a4 a5 a6 a7 a8 a9 a10 a11 a12 a13 a14 h)
  · refine qo_br (qo_i_eq (qo_v f0_steps) qo_k0) h (fun h => ?_) (fun h => ?_)
    · exact qo_pr qo_km4 h (fun rr_2 h => hk rr_2 f0_on f0_trump f0_lead f0_played f0_firstWon f0_secondWon f0_steps f0_kind f0_entered a1 a2 a3 a4 a5 a6 a7 a8 a9 a10 a11 a12 a13 a14 h)
    · refine qt_p_pop  (fun r_3 f0_on_4 f0_trump_5 f0_lead_6 f0_played_7 f0_firstWon_8 f0_secondWon_9 f0_steps_10 f0_kind_11 f0_entered_12 am231_15 am232_18 am233_21 am234_24 am235_27 am236_30 am237_33 am238_36 am239_39 am2310_42 am2311_45 am2312_48 am2313_51 am2314_54 h => ?_) h
      exact hk r_3 f0_on_4 f0_trump_5 f0_lead_6 f0_played_7 f0_firstWon_8 f0_secondWon_9 f0_steps_10 f0_kind_11 f0_entered_12 am231_15 am232_18 am233_21 am234_24 am235_27 am236_30 am237_33 am238_36 am239_39 am2310_42 am2311_45 am2312_48 am2313_51 am2314_54 h
noncomputable def qm_p_won (f0_on f0_firstWon f0_secondWon p0 : Nat) (k : Nat → Bool) : Bool := (qo_if (qo_lt p0 0) (qo_fz 4294967295 k) (qo_if (qo_le p0 1) (qo_if (qo_eq f0_on 0) (qo_fz 4294967293 k) (qo_if (qo_eq p0 0) (k f0_firstWon) (k f0_secondWon))) (qo_fz 4294967295 k)))
theorem qt_p_won {post : Int32 → Prop} {f0_on : Nat} {f0_trump : Int32} {f0_lead : Int32} {f0_played : Int32} {f0_firstWon : Nat} {f0_secondWon : Nat} {f0_steps : Int32} {f0_kind : Int32} {f0_entered : Int32} {a1 : Nat → Int32} {a2 : Nat → Int32} {a3 : Nat → Int32} {a4 : Nat → Int32} {a5 : Nat → Int32} {a6 : Nat → Int32} {a7 : Nat → Int32} {a8 : Nat → Int32} {a9 : Nat → Int32} {a10 : Nat → Int32} {a11 : Nat → Int32} {a12 : Nat → Int32} {a13 : Nat → Int64} {a14 : Nat → Int32} {p0_i : Int32} {p0 : Nat} {k : Nat → Bool} (e_p0 : p0_i = nI p0) (hk : ∀ r : Nat, k r = true → post (nI r)) (h : qm_p_won f0_on f0_firstWon f0_secondWon p0 k = true) : wpX_won post (nI f0_on, f0_trump, f0_lead, f0_played, nI f0_firstWon, nI f0_secondWon, f0_steps, f0_kind, f0_entered, a1, a2, a3, a4, a5, a6, a7, a8, a9, a10, a11, a12, a13, a14) p0_i := by
  subst e_p0
  unfold qm_p_won at h
  unfold wpX_won
  refine qo_br (qo_i_lt (qo_v p0) qo_k0) h (fun h => ?_) (fun h => ?_)
  · exact qo_po qo_km1 h hk
  · refine qo_br (qo_i_le (qo_v p0) qo_k1) h (fun h => ?_) (fun h => ?_)
    · refine qo_br (qo_i_eq (qo_v f0_on) qo_k0) h (fun h => ?_) (fun h => ?_)
      · exact qo_po qo_km3 h hk
      · refine qo_br (qo_i_eq (qo_v p0) qo_k0) h (fun h => ?_) (fun h => ?_)
        · exact hk f0_firstWon h
        · exact hk f0_secondWon h
    · exact qo_po qo_km1 h hk
noncomputable def qm_keyNow_10_s (a2 : Nat) (k : Nat → Bool) (J : Nat → Nat → Bool) (x1 x3 : Nat) : Bool := (qo_if (qo_le 4 x3) (k x1) (qo_nd (Nat.ble (Nat.succ x3) 4) (qo_fz (Nat.lor (qo_slL x1 12) (qo_il (qo_gt a2 (qo_cl x3)))) (fun x1_4 => (qo_fz (qo_ad x3 1) (fun x3_5 => (J x1_4 x3_5)))))))
noncomputable def qm_keyNow_10 (a2 : Nat) (k : Nat → Bool) (n : Nat) : Nat → Nat → Bool := Nat.rec (motive := fun _ => Nat → Nat → Bool) (fun _ _ => false) (fun _ J => qm_keyNow_10_s a2 k J) n
theorem qt_keyNow_10 {post : Int64 → Prop} {f0_on : Int32} {f0_trump : Int32} {f0_lead : Int32} {f0_played : Int32} {f0_firstWon : Int32} {f0_secondWon : Int32} {f0_steps : Int32} {f0_kind : Int32} {f0_entered : Int32} {a1 : Nat → Int32} {a2 : Nat} {a3 : Nat → Int32} {a4 : Nat → Int32} {a5 : Nat → Int32} {a6 : Nat → Int32} {a7 : Nat → Int32} {a8 : Nat → Int32} {a9 : Nat → Int32} {a10 : Nat → Int32} {a11 : Nat → Int32} {a12 : Nat → Int32} {a13 : Nat → Int64} {a14 : Nat → Int32} {k : Nat → Bool} (hk : ∀ r : Nat, k r = true → post (lN r)) : ∀ (n : Nat) {x1_i : Int64} {x1 : Nat} {x3_i : Int32} {x3 : Nat} (e_x1 : x1_i = lN x1) (e_x3 : x3_i = nI x3), qm_keyNow_10 a2 k n x1 x3 = true → wX_keyNow_10 post f0_on f0_trump f0_lead f0_played f0_firstWon f0_secondWon f0_steps f0_kind f0_entered a1 (qo_ar a2) a3 a4 a5 a6 a7 a8 a9 a10 a11 a12 a13 a14 n x1_i x3_i := by
  intro n
  induction n with
  | zero =>
    intros
    exact qo_no (by assumption)
  | succ n ih =>
    intro x1_i x1 x3_i x3 e_x1 e_x3 h
    subst e_x1
    subst e_x3
    replace h : qm_keyNow_10_s a2 k (qm_keyNow_10 a2 k n) x1 x3 = true := h
    unfold qm_keyNow_10_s at h
    refine qo_br (qo_i_le qo_k4 (qo_v x3)) h (fun h => ?_) (fun h => ?_)
    · exact hk x1 h
    · refine qo_in (by decide) (qo_v x3) h (fun hi_1 h => ?_)
      refine qo_nmL (qo_e_orL (qo_e_slL (qo_vL x1) qo_k12) (qo_e_il (qo_e_gt a2 (qo_v x3)))) h (fun x1_4 h => ?_)
      refine qo_nm (qo_e_ad (qo_v x3) qo_k1) h (fun x3_5 h => ?_)
      exact ih (qo_vL x1_4) (qo_v x3_5) h
noncomputable def qm_p_keyNow (f0_lead a2 : Nat) (k : Nat → Bool) : Bool := (qo_fz (qo_il (qo_ad f0_lead 1)) (fun x1_1 => (qm_keyNow_10 a2 k 5 x1_1 0)))
theorem qt_p_keyNow {post : Int64 → Prop} {f0_on : Int32} {f0_trump : Int32} {f0_lead : Nat} {f0_played : Int32} {f0_firstWon : Int32} {f0_secondWon : Int32} {f0_steps : Int32} {f0_kind : Int32} {f0_entered : Int32} {a1 : Nat → Int32} {a2 : Nat} {a3 : Nat → Int32} {a4 : Nat → Int32} {a5 : Nat → Int32} {a6 : Nat → Int32} {a7 : Nat → Int32} {a8 : Nat → Int32} {a9 : Nat → Int32} {a10 : Nat → Int32} {a11 : Nat → Int32} {a12 : Nat → Int32} {a13 : Nat → Int64} {a14 : Nat → Int32} {k : Nat → Bool} (hk : ∀ r : Nat, k r = true → post (lN r)) (h : qm_p_keyNow f0_lead a2 k = true) : wpX_keyNow post (f0_on, f0_trump, nI f0_lead, f0_played, f0_firstWon, f0_secondWon, f0_steps, f0_kind, f0_entered, a1, qo_ar a2, a3, a4, a5, a6, a7, a8, a9, a10, a11, a12, a13, a14) := by
  unfold qm_p_keyNow at h
  unfold wpX_keyNow
  refine qo_nmL (qo_e_il (qo_e_ad (qo_v f0_lead) qo_k1)) h (fun x1_1 h => ?_)
  exact ⟨5, qt_keyNow_10  hk _ (qo_vL x1_1) qo_k0 h⟩
noncomputable def qm_slotFor_20_s (x1 a13 : Nat) (k : Nat → Bool) (J : Nat → Nat → Bool) (x3 x4 : Nat) : Bool := (qo_if (qo_le 2048 x4) (k x3) (qo_nd (Nat.ble (Nat.succ x3) 2048) (qo_if (qo_eqL (qo_gL a13 (qo_cl x3)) 0) (k x3) (qo_if (qo_eqL (qo_gL a13 (qo_cl x3)) x1) (k x3) (qo_fz (Nat.land (qo_ad x3 1) 2047) (fun x3_7 => (qo_fz (qo_ad x4 1) (fun x4_8 => (J x3_7 x4_8)))))))))
noncomputable def qm_slotFor_20 (x1 a13 : Nat) (k : Nat → Bool) (n : Nat) : Nat → Nat → Bool := Nat.rec (motive := fun _ => Nat → Nat → Bool) (fun _ _ => false) (fun _ J => qm_slotFor_20_s x1 a13 k J) n
theorem qt_slotFor_20 {post : Int32 → Prop} {x1_i : Int64} {x1 : Nat} {f0_on : Int32} {f0_trump : Int32} {f0_lead : Int32} {f0_played : Int32} {f0_firstWon : Int32} {f0_secondWon : Int32} {f0_steps : Int32} {f0_kind : Int32} {f0_entered : Int32} {a1 : Nat → Int32} {a2 : Nat → Int32} {a3 : Nat → Int32} {a4 : Nat → Int32} {a5 : Nat → Int32} {a6 : Nat → Int32} {a7 : Nat → Int32} {a8 : Nat → Int32} {a9 : Nat → Int32} {a10 : Nat → Int32} {a11 : Nat → Int32} {a12 : Nat → Int32} {a13 : Nat} {a14 : Nat → Int32} {k : Nat → Bool} (e_x1 : x1_i = lN x1) (hk : ∀ r : Nat, k r = true → post (nI r)) : ∀ (n : Nat) {x3_i : Int32} {x3 : Nat} {x4_i : Int32} {x4 : Nat} (e_x3 : x3_i = nI x3) (e_x4 : x4_i = nI x4), qm_slotFor_20 x1 a13 k n x3 x4 = true → wX_slotFor_20 post x1_i f0_on f0_trump f0_lead f0_played f0_firstWon f0_secondWon f0_steps f0_kind f0_entered a1 a2 a3 a4 a5 a6 a7 a8 a9 a10 a11 a12 (qo_aL a13) a14 n x3_i x4_i := by
  subst e_x1
  intro n
  induction n with
  | zero =>
    intros
    exact qo_no (by assumption)
  | succ n ih =>
    intro x3_i x3 x4_i x4 e_x3 e_x4 h
    subst e_x3
    subst e_x4
    replace h : qm_slotFor_20_s x1 a13 k (qm_slotFor_20 x1 a13 k n) x3 x4 = true := h
    unfold qm_slotFor_20_s at h
    refine qo_br (qo_i_le qo_k2048 (qo_v x4)) h (fun h => ?_) (fun h => ?_)
    · exact hk x3 h
    · refine qo_in (by decide) (qo_v x3) h (fun hi_1 h => ?_)
      refine qo_br (qo_i_eqL (qo_e_gL a13 (qo_v x3)) qo_k0L) h (fun h => ?_) (fun h => ?_)
      · exact hk x3 h
      · refine ⟨hi_1, ?_⟩
        refine qo_br (qo_i_eqL (qo_e_gL a13 (qo_v x3)) (qo_vL x1)) h (fun h => ?_) (fun h => ?_)
        · exact hk x3 h
        · refine qo_nm (qo_e_an (qo_e_ad (qo_v x3) qo_k1) qo_k2047) h (fun x3_7 h => ?_)
          refine qo_nm (qo_e_ad (qo_v x4) qo_k1) h (fun x4_8 h => ?_)
          exact ih (qo_v x3_7) (qo_v x4_8) h
noncomputable def qm_p_slotFor (a13 p0 : Nat) (k : Nat → Bool) : Bool := (qo_fz (Nat.land (Nat.mod (Nat.xor (Nat.xor p0 (qo_srL p0 17)) (qo_srL p0 31)) 4294967296) 2047) (fun x3_1 => (qm_slotFor_20 p0 a13 k 60 x3_1 0)))
theorem qt_p_slotFor {post : Int32 → Prop} {f0_on : Int32} {f0_trump : Int32} {f0_lead : Int32} {f0_played : Int32} {f0_firstWon : Int32} {f0_secondWon : Int32} {f0_steps : Int32} {f0_kind : Int32} {f0_entered : Int32} {a1 : Nat → Int32} {a2 : Nat → Int32} {a3 : Nat → Int32} {a4 : Nat → Int32} {a5 : Nat → Int32} {a6 : Nat → Int32} {a7 : Nat → Int32} {a8 : Nat → Int32} {a9 : Nat → Int32} {a10 : Nat → Int32} {a11 : Nat → Int32} {a12 : Nat → Int32} {a13 : Nat} {a14 : Nat → Int32} {p0_i : Int64} {p0 : Nat} {k : Nat → Bool} (e_p0 : p0_i = lN p0) (hk : ∀ r : Nat, k r = true → post (nI r)) (h : qm_p_slotFor a13 p0 k = true) : wpX_slotFor post (f0_on, f0_trump, f0_lead, f0_played, f0_firstWon, f0_secondWon, f0_steps, f0_kind, f0_entered, a1, a2, a3, a4, a5, a6, a7, a8, a9, a10, a11, a12, qo_aL a13, a14) p0_i := by
  subst e_p0
  unfold qm_p_slotFor at h
  unfold wpX_slotFor
  refine qo_nm (qo_e_an (qo_e_li (qo_e_xoL (qo_e_xoL (qo_vL p0) (qo_e_srL (qo_vL p0) qo_k17)) (qo_e_srL (qo_vL p0) qo_k31))) qo_k2047) h (fun x3_1 h => ?_)
  exact ⟨60, qt_slotFor_20 (qo_vL p0) hk _ (qo_v x3_1) qo_k0 h⟩
noncomputable def qm_p_atOnce (f0_lead f0_played f0_kind a2 a13 a14 : Nat) (k : Nat → Bool) : Bool := (qm_p_mover f0_lead f0_played (fun r_1 => (qo_nd (Nat.ble (Nat.succ r_1) 4) (qo_if (qo_eq (qo_gt a2 (qo_cl r_1)) 0) (qo_if (qo_eq f0_kind 2) (qo_fz 1 k) (qo_fz 0 k)) (qo_if (qo_le f0_played 0) (qm_p_keyNow f0_lead a2 (fun r_5 => (qm_p_slotFor a13 r_5 (fun r_6 => (qo_nd (Nat.ble (Nat.succ r_6) 2048) (qo_if (qo_eqL (qo_gL a13 (qo_cl r_6)) r_5) (qo_fz (qo_gt a14 (qo_cl r_6)) k) (qo_fz 4294967295 k))))))) (qo_fz 4294967295 k))))))
theorem qt_p_atOnce {post : Int32 → Prop} {f0_on : Int32} {f0_trump : Int32} {f0_lead : Nat} {f0_played : Nat} {f0_firstWon : Int32} {f0_secondWon : Int32} {f0_steps : Int32} {f0_kind : Nat} {f0_entered : Int32} {a1 : Nat → Int32} {a2 : Nat} {a3 : Nat → Int32} {a4 : Nat → Int32} {a5 : Nat → Int32} {a6 : Nat → Int32} {a7 : Nat → Int32} {a8 : Nat → Int32} {a9 : Nat → Int32} {a10 : Nat → Int32} {a11 : Nat → Int32} {a12 : Nat → Int32} {a13 : Nat} {a14 : Nat} {k : Nat → Bool} (hk : ∀ r : Nat, k r = true → post (nI r)) (h : qm_p_atOnce f0_lead f0_played f0_kind a2 a13 a14 k = true) : wpX_atOnce post (f0_on, f0_trump, nI f0_lead, nI f0_played, f0_firstWon, f0_secondWon, f0_steps, nI f0_kind, f0_entered, a1, qo_ar a2, a3, a4, a5, a6, a7, a8, a9, a10, a11, a12, qo_aL a13, qo_ar a14) := by
  unfold qm_p_atOnce at h
  unfold wpX_atOnce
  refine qt_p_mover  (fun r_1 h => ?_) h
  refine qo_in (by decide) (qo_v r_1) h (fun hi_1 h => ?_)
  refine qo_br (qo_i_eq (qo_e_gt a2 (qo_v r_1)) qo_k0) h (fun h => ?_) (fun h => ?_)
  · refine qo_br (qo_i_eq (qo_v f0_kind) qo_k2) h (fun h => ?_) (fun h => ?_)
    · exact qo_po qo_k1 h hk
    · exact qo_po qo_k0 h hk
  · refine qo_br (qo_i_le (qo_v f0_played) qo_k0) h (fun h => ?_) (fun h => ?_)
    · refine qt_p_keyNow  (fun r_5 h => ?_) h
      refine qt_p_slotFor (qo_vL r_5) (fun r_6 h => ?_) h
      refine qo_in (by decide) (qo_v r_6) h (fun hi_2 h => ?_)
      refine qo_br (qo_i_eqL (qo_e_gL a13 (qo_v r_6)) (qo_vL r_5)) h (fun h => ?_) (fun h => ?_)
      · refine ⟨hi_2, ?_⟩
        exact qo_po (qo_e_gt a14 (qo_v r_6)) h hk
      · exact qo_po qo_km1 h hk
    · exact qo_po qo_km1 h hk
noncomputable def qm_p_suitCards (p0 : Nat) (k : Nat → Bool) : Bool := (qo_fz (qo_sl 15 (qo_mu 4 p0)) k)
theorem qt_p_suitCards {post : Int32 → Prop} {f0_on : Int32} {f0_trump : Int32} {f0_lead : Int32} {f0_played : Int32} {f0_firstWon : Int32} {f0_secondWon : Int32} {f0_steps : Int32} {f0_kind : Int32} {f0_entered : Int32} {a1 : Nat → Int32} {a2 : Nat → Int32} {a3 : Nat → Int32} {a4 : Nat → Int32} {a5 : Nat → Int32} {a6 : Nat → Int32} {a7 : Nat → Int32} {a8 : Nat → Int32} {a9 : Nat → Int32} {a10 : Nat → Int32} {a11 : Nat → Int32} {a12 : Nat → Int32} {a13 : Nat → Int64} {a14 : Nat → Int32} {p0_i : Int32} {p0 : Nat} {k : Nat → Bool} (e_p0 : p0_i = nI p0) (hk : ∀ r : Nat, k r = true → post (nI r)) (h : qm_p_suitCards p0 k = true) : wpX_suitCards post (f0_on, f0_trump, f0_lead, f0_played, f0_firstWon, f0_secondWon, f0_steps, f0_kind, f0_entered, a1, a2, a3, a4, a5, a6, a7, a8, a9, a10, a11, a12, a13, a14) p0_i := by
  subst e_p0
  unfold qm_p_suitCards at h
  unfold wpX_suitCards
  exact qo_po (qo_e_sl qo_k15 (qo_e_mu qo_k4 (qo_v p0))) h hk
noncomputable def qm_p_legalNow (f0_lead f0_played a2 a3 : Nat) (k : Nat → Bool) : Bool := (qm_p_mover f0_lead f0_played (fun r_1 => (qo_nd (Nat.ble (Nat.succ r_1) 4) (qo_fz (qo_gt a2 (qo_cl r_1)) (fun x1_3 => (qo_if (qo_eq f0_played 0) (k x1_3) (qo_fz (qo_dv (qo_gt a3 0) 4) (fun y_2 => (qm_p_suitCards y_2 (fun r_6 => (qo_fz (Nat.land x1_3 r_6) (fun x2_7 => (qo_if (qo_eq x2_7 0) (k x1_3) (k x2_7))))))))))))))
theorem qt_p_legalNow {post : Int32 → Prop} {f0_on : Int32} {f0_trump : Int32} {f0_lead : Nat} {f0_played : Nat} {f0_firstWon : Int32} {f0_secondWon : Int32} {f0_steps : Int32} {f0_kind : Int32} {f0_entered : Int32} {a1 : Nat → Int32} {a2 : Nat} {a3 : Nat} {a4 : Nat → Int32} {a5 : Nat → Int32} {a6 : Nat → Int32} {a7 : Nat → Int32} {a8 : Nat → Int32} {a9 : Nat → Int32} {a10 : Nat → Int32} {a11 : Nat → Int32} {a12 : Nat → Int32} {a13 : Nat → Int64} {a14 : Nat → Int32} {k : Nat → Bool} (hk : ∀ r : Nat, k r = true → post (nI r)) (h : qm_p_legalNow f0_lead f0_played a2 a3 k = true) : wpX_legalNow post (f0_on, f0_trump, nI f0_lead, nI f0_played, f0_firstWon, f0_secondWon, f0_steps, f0_kind, f0_entered, a1, qo_ar a2, qo_ar a3, a4, a5, a6, a7, a8, a9, a10, a11, a12, a13, a14) := by
  unfold qm_p_legalNow at h
  unfold wpX_legalNow
  refine qt_p_mover  (fun r_1 h => ?_) h
  refine qo_in (by decide) (qo_v r_1) h (fun hi_1 h => ?_)
  refine qo_nm (qo_e_gt a2 (qo_v r_1)) h (fun x1_3 h => ?_)
  refine qo_br (qo_i_eq (qo_v f0_played) qo_k0) h (fun h => ?_) (fun h => ?_)
  · exact hk x1_3 h
  · refine ⟨by decide, ?_⟩
    rw [qo_fz_e] at h
    refine qt_p_suitCards (qo_e_dv (qo_e_g0 a3 0) qo_k4) (fun r_6 h => ?_) h
    refine qo_nm (qo_e_an (qo_v x1_3) (qo_v r_6)) h (fun x2_7 h => ?_)
    refine qo_br (qo_i_eq (qo_v x2_7) qo_k0) h (fun h => ?_) (fun h => ?_)
    · exact hk x1_3 h
    · exact hk x2_7 h
noncomputable def qm_fewer_98 (x1 x3 x4 x5 : Nat) (J71 : Nat → Nat → Nat → Bool) : Bool := (qo_if (qo_eq (Nat.land (qo_sr x1 x5) 1) 1) (qo_if (qo_le 0 x4) (qo_fz (qo_ad x5 1) (fun x5_9 => (J71 x3 x5 x5_9))) (qo_fz (Nat.lor x3 (qo_sl 1 x5)) (fun x3_10 => (qo_fz (qo_ad x5 1) (fun x5_11 => (J71 x3_10 x5 x5_11)))))) (qo_fz (qo_ad x5 1) (fun x5_7 => (J71 x3 x4 x5_7))))
theorem qt_fewer_98 {post : Int32 → Prop} {J71 : Int32 → Int32 → Int32 → Prop} {x1_i : Int32} {x1 : Nat} {x2 : Int32} {x3_i : Int32} {x3 : Nat} {x4_i : Int32} {x4 : Nat} {x5_i : Int32} {x5 : Nat} {f0_on : Int32} {f0_trump : Int32} {f0_lead : Int32} {f0_played : Int32} {f0_firstWon : Int32} {f0_secondWon : Int32} {f0_steps : Int32} {f0_kind : Int32} {f0_entered : Int32} {a1 : Nat → Int32} {a2 : Nat → Int32} {a3 : Nat → Int32} {a4 : Nat → Int32} {a5 : Nat → Int32} {a6 : Nat → Int32} {a7 : Nat → Int32} {a8 : Nat → Int32} {a9 : Nat → Int32} {a10 : Nat → Int32} {a11 : Nat → Int32} {a12 : Nat → Int32} {a13 : Nat → Int64} {a14 : Nat → Int32} {J71' : Nat → Nat → Nat → Bool} (e_x1 : x1_i = nI x1) (e_x3 : x3_i = nI x3) (e_x4 : x4_i = nI x4) (e_x5 : x5_i = nI x5) (hJ71 : ∀ (w0 w1 w2 : Nat) , J71' w0 w1 w2 = true → J71 (nI w0) (nI w1) (nI w2)) (h : qm_fewer_98 x1 x3 x4 x5 J71' = true) : wX_fewer_98 post J71 x1_i x2 x3_i x4_i x5_i f0_on f0_trump f0_lead f0_played f0_firstWon f0_secondWon f0_steps f0_kind f0_entered a1 a2 a3 a4 a5 a6 a7 a8 a9 a10 a11 a12 a13 a14 := by
  subst e_x1
  subst e_x3
  subst e_x4
  subst e_x5
  unfold qm_fewer_98 at h
  unfold wX_fewer_98
  refine qo_br (qo_i_eq (qo_e_an (qo_e_sr (qo_v x1) (qo_v x5)) qo_k1) qo_k1) h (fun h => ?_) (fun h => ?_)
  · refine qo_br (qo_i_le qo_k0 (qo_v x4)) h (fun h => ?_) (fun h => ?_)
    · refine qo_nm (qo_e_ad (qo_v x5) qo_k1) h (fun x5_9 h => ?_)
      exact hJ71 x3 x5 x5_9 h
    · refine qo_nm (qo_e_or (qo_v x3) (qo_e_sl qo_k1 (qo_v x5))) h (fun x3_10 h => ?_)
      refine qo_nm (qo_e_ad (qo_v x5) qo_k1) h (fun x5_11 h => ?_)
      exact hJ71 x3_10 x5 x5_11 h
  · refine qo_nm (qo_e_ad (qo_v x5) qo_k1) h (fun x5_7 h => ?_)
    exact hJ71 x3 x4 x5_7 h
noncomputable def qm_fewer_95 (x1 x3 x5 : Nat) (J71 : Nat → Nat → Nat → Bool) : Bool := (qm_fewer_98 x1 x3 4294967295 x5 J71)
theorem qt_fewer_95 {post : Int32 → Prop} {J71 : Int32 → Int32 → Int32 → Prop} {x1_i : Int32} {x1 : Nat} {x2 : Int32} {x3_i : Int32} {x3 : Nat} {x5_i : Int32} {x5 : Nat} {f0_on : Int32} {f0_trump : Int32} {f0_lead : Int32} {f0_played : Int32} {f0_firstWon : Int32} {f0_secondWon : Int32} {f0_steps : Int32} {f0_kind : Int32} {f0_entered : Int32} {a1 : Nat → Int32} {a2 : Nat → Int32} {a3 : Nat → Int32} {a4 : Nat → Int32} {a5 : Nat → Int32} {a6 : Nat → Int32} {a7 : Nat → Int32} {a8 : Nat → Int32} {a9 : Nat → Int32} {a10 : Nat → Int32} {a11 : Nat → Int32} {a12 : Nat → Int32} {a13 : Nat → Int64} {a14 : Nat → Int32} {J71' : Nat → Nat → Nat → Bool} (e_x1 : x1_i = nI x1) (e_x3 : x3_i = nI x3) (e_x5 : x5_i = nI x5) (hJ71 : ∀ (w0 w1 w2 : Nat) , J71' w0 w1 w2 = true → J71 (nI w0) (nI w1) (nI w2)) (h : qm_fewer_95 x1 x3 x5 J71' = true) : wX_fewer_95 post J71 x1_i x2 x3_i x5_i f0_on f0_trump f0_lead f0_played f0_firstWon f0_secondWon f0_steps f0_kind f0_entered a1 a2 a3 a4 a5 a6 a7 a8 a9 a10 a11 a12 a13 a14 := by
  subst e_x1
  subst e_x3
  subst e_x5
  unfold qm_fewer_95 at h
  unfold wX_fewer_95
  exact qt_fewer_98 (qo_v x1) (qo_v x3) qo_km1 (qo_v x5) hJ71 h
noncomputable def qm_fewer_71_s (x1 x2 : Nat) (k : Nat → Bool) (J : Nat → Nat → Nat → Bool) (x3 x4 x5 : Nat) : Bool := (qo_if (qo_le 12 x5) (k x3) (qo_if (qo_eq (qo_su x5 (qo_mu (qo_dv x5 4) 4)) 0) (qm_fewer_95 x1 x3 x5 J) (qo_if (qo_eq (Nat.land (qo_sr x2 x5) 1) 1) (qm_fewer_95 x1 x3 x5 J) (qm_fewer_98 x1 x3 x4 x5 J))))
noncomputable def qm_fewer_71 (x1 x2 : Nat) (k : Nat → Bool) (n : Nat) : Nat → Nat → Nat → Bool := Nat.rec (motive := fun _ => Nat → Nat → Nat → Bool) (fun _ _ _ => false) (fun _ J => qm_fewer_71_s x1 x2 k J) n
theorem qt_fewer_71 {post : Int32 → Prop} {x1_i : Int32} {x1 : Nat} {x2_i : Int32} {x2 : Nat} {f0_on : Int32} {f0_trump : Int32} {f0_lead : Int32} {f0_played : Int32} {f0_firstWon : Int32} {f0_secondWon : Int32} {f0_steps : Int32} {f0_kind : Int32} {f0_entered : Int32} {a1 : Nat → Int32} {a2 : Nat → Int32} {a3 : Nat → Int32} {a4 : Nat → Int32} {a5 : Nat → Int32} {a6 : Nat → Int32} {a7 : Nat → Int32} {a8 : Nat → Int32} {a9 : Nat → Int32} {a10 : Nat → Int32} {a11 : Nat → Int32} {a12 : Nat → Int32} {a13 : Nat → Int64} {a14 : Nat → Int32} {k : Nat → Bool} (e_x1 : x1_i = nI x1) (e_x2 : x2_i = nI x2) (hk : ∀ r : Nat, k r = true → post (nI r)) : ∀ (n : Nat) {x3_i : Int32} {x3 : Nat} {x4_i : Int32} {x4 : Nat} {x5_i : Int32} {x5 : Nat} (e_x3 : x3_i = nI x3) (e_x4 : x4_i = nI x4) (e_x5 : x5_i = nI x5), qm_fewer_71 x1 x2 k n x3 x4 x5 = true → wX_fewer_71 post x1_i x2_i f0_on f0_trump f0_lead f0_played f0_firstWon f0_secondWon f0_steps f0_kind f0_entered a1 a2 a3 a4 a5 a6 a7 a8 a9 a10 a11 a12 a13 a14 n x3_i x4_i x5_i := by
  subst e_x1
  subst e_x2
  intro n
  induction n with
  | zero =>
    intros
    exact qo_no (by assumption)
  | succ n ih =>
    intro x3_i x3 x4_i x4 x5_i x5 e_x3 e_x4 e_x5 h
    subst e_x3
    subst e_x4
    subst e_x5
    replace h : qm_fewer_71_s x1 x2 k (qm_fewer_71 x1 x2 k n) x3 x4 x5 = true := h
    unfold qm_fewer_71_s at h
    refine qo_br (qo_i_le qo_k12 (qo_v x5)) h (fun h => ?_) (fun h => ?_)
    · exact hk x3 h
    · refine ⟨by decide, ?_⟩
      refine qo_br (qo_i_eq (qo_e_su (qo_v x5) (qo_e_mu (qo_e_dv (qo_v x5) qo_k4) qo_k4)) qo_k0) h (fun h => ?_) (fun h => ?_)
      · exact qt_fewer_95 (qo_v x1) (qo_v x3) (qo_v x5) (fun w0 w1 w2 h => ih (qo_v w0) (qo_v w1) (qo_v w2) h) h
      · refine qo_br (qo_i_eq (qo_e_an (qo_e_sr (qo_v x2) (qo_v x5)) qo_k1) qo_k1) h (fun h => ?_) (fun h => ?_)
        · exact qt_fewer_95 (qo_v x1) (qo_v x3) (qo_v x5) (fun w0 w1 w2 h => ih (qo_v w0) (qo_v w1) (qo_v w2) h) h
        · exact qt_fewer_98 (qo_v x1) (qo_v x3) (qo_v x4) (qo_v x5) (fun w0 w1 w2 h => ih (qo_v w0) (qo_v w1) (qo_v w2) h) h
noncomputable def qm_fewer_38_s (x1 f0_played a3 : Nat) (k : Nat → Bool) (J : Nat → Nat → Bool) (x2 x3 : Nat) : Bool := (qo_if (qo_le f0_played x3) (qm_fewer_71 x1 x2 k 13 0 4294967295 0) (qo_nd (Nat.ble (Nat.succ x3) 4) (qo_fz (Nat.lor x2 (qo_sl 1 (qo_gt a3 (qo_cl x3)))) (fun x2_14 => (qo_fz (qo_ad x3 1) (fun x3_15 => (J x2_14 x3_15)))))))
noncomputable def qm_fewer_38 (x1 f0_played a3 : Nat) (k : Nat → Bool) (n : Nat) : Nat → Nat → Bool := Nat.rec (motive := fun _ => Nat → Nat → Bool) (fun _ _ => false) (fun _ J => qm_fewer_38_s x1 f0_played a3 k J) n
theorem qt_fewer_38 {post : Int32 → Prop} {x1_i : Int32} {x1 : Nat} {f0_on : Int32} {f0_trump : Int32} {f0_lead : Int32} {f0_played : Nat} {f0_firstWon : Int32} {f0_secondWon : Int32} {f0_steps : Int32} {f0_kind : Int32} {f0_entered : Int32} {a1 : Nat → Int32} {a2 : Nat → Int32} {a3 : Nat} {a4 : Nat → Int32} {a5 : Nat → Int32} {a6 : Nat → Int32} {a7 : Nat → Int32} {a8 : Nat → Int32} {a9 : Nat → Int32} {a10 : Nat → Int32} {a11 : Nat → Int32} {a12 : Nat → Int32} {a13 : Nat → Int64} {a14 : Nat → Int32} {k : Nat → Bool} (e_x1 : x1_i = nI x1) (hk : ∀ r : Nat, k r = true → post (nI r)) : ∀ (n : Nat) {x2_i : Int32} {x2 : Nat} {x3_i : Int32} {x3 : Nat} (e_x2 : x2_i = nI x2) (e_x3 : x3_i = nI x3), qm_fewer_38 x1 f0_played a3 k n x2 x3 = true → wX_fewer_38 post x1_i f0_on f0_trump f0_lead (nI f0_played) f0_firstWon f0_secondWon f0_steps f0_kind f0_entered a1 a2 (qo_ar a3) a4 a5 a6 a7 a8 a9 a10 a11 a12 a13 a14 n x2_i x3_i := by
  subst e_x1
  intro n
  induction n with
  | zero =>
    intros
    exact qo_no (by assumption)
  | succ n ih =>
    intro x2_i x2 x3_i x3 e_x2 e_x3 h
    subst e_x2
    subst e_x3
    replace h : qm_fewer_38_s x1 f0_played a3 k (qm_fewer_38 x1 f0_played a3 k n) x2 x3 = true := h
    unfold qm_fewer_38_s at h
    refine qo_br (qo_i_le (qo_v f0_played) (qo_v x3)) h (fun h => ?_) (fun h => ?_)
    · exact ⟨13, qt_fewer_71 (qo_v x1) (qo_v x2) hk _ qo_k0 qo_km1 qo_k0 h⟩
    · refine qo_in (by decide) (qo_v x3) h (fun hi_1 h => ?_)
      refine qo_nm (qo_e_or (qo_v x2) (qo_e_sl qo_k1 (qo_e_gt a3 (qo_v x3)))) h (fun x2_14 h => ?_)
      refine qo_nm (qo_e_ad (qo_v x3) qo_k1) h (fun x3_15 h => ?_)
      exact ih (qo_v x2_14) (qo_v x3_15) h
noncomputable def qm_fewer_4_s (x1 f0_lead f0_played a2 a3 : Nat) (k : Nat → Bool) (J : Nat → Nat → Bool) (x2 x3 : Nat) : Bool := (qo_if (qo_le 4 x3) (qm_fewer_38 x1 f0_played a3 k 5 x2 0) (qm_p_mover f0_lead f0_played (fun r_16 => (qo_if (qo_eq x3 r_16) (qo_fz (qo_ad x3 1) (fun x3_21 => (J x2 x3_21))) (qo_nd (Nat.ble (Nat.succ x3) 4) (qo_fz (Nat.lor x2 (qo_gt a2 (qo_cl x3))) (fun x2_19 => (qo_fz (qo_ad x3 1) (fun x3_20 => (J x2_19 x3_20))))))))))
noncomputable def qm_fewer_4 (x1 f0_lead f0_played a2 a3 : Nat) (k : Nat → Bool) (n : Nat) : Nat → Nat → Bool := Nat.rec (motive := fun _ => Nat → Nat → Bool) (fun _ _ => false) (fun _ J => qm_fewer_4_s x1 f0_lead f0_played a2 a3 k J) n
theorem qt_fewer_4 {post : Int32 → Prop} {x1_i : Int32} {x1 : Nat} {f0_on : Int32} {f0_trump : Int32} {f0_lead : Nat} {f0_played : Nat} {f0_firstWon : Int32} {f0_secondWon : Int32} {f0_steps : Int32} {f0_kind : Int32} {f0_entered : Int32} {a1 : Nat → Int32} {a2 : Nat} {a3 : Nat} {a4 : Nat → Int32} {a5 : Nat → Int32} {a6 : Nat → Int32} {a7 : Nat → Int32} {a8 : Nat → Int32} {a9 : Nat → Int32} {a10 : Nat → Int32} {a11 : Nat → Int32} {a12 : Nat → Int32} {a13 : Nat → Int64} {a14 : Nat → Int32} {k : Nat → Bool} (e_x1 : x1_i = nI x1) (hk : ∀ r : Nat, k r = true → post (nI r)) : ∀ (n : Nat) {x2_i : Int32} {x2 : Nat} {x3_i : Int32} {x3 : Nat} (e_x2 : x2_i = nI x2) (e_x3 : x3_i = nI x3), qm_fewer_4 x1 f0_lead f0_played a2 a3 k n x2 x3 = true → wX_fewer_4 post x1_i f0_on f0_trump (nI f0_lead) (nI f0_played) f0_firstWon f0_secondWon f0_steps f0_kind f0_entered a1 (qo_ar a2) (qo_ar a3) a4 a5 a6 a7 a8 a9 a10 a11 a12 a13 a14 n x2_i x3_i := by
  subst e_x1
  intro n
  induction n with
  | zero =>
    intros
    exact qo_no (by assumption)
  | succ n ih =>
    intro x2_i x2 x3_i x3 e_x2 e_x3 h
    subst e_x2
    subst e_x3
    replace h : qm_fewer_4_s x1 f0_lead f0_played a2 a3 k (qm_fewer_4 x1 f0_lead f0_played a2 a3 k n) x2 x3 = true := h
    unfold qm_fewer_4_s at h
    refine qo_br (qo_i_le qo_k4 (qo_v x3)) h (fun h => ?_) (fun h => ?_)
    · exact ⟨5, qt_fewer_38 (qo_v x1) hk _ (qo_v x2) qo_k0 h⟩
    · refine qt_p_mover  (fun r_16 h => ?_) h
      refine qo_br (qo_i_eq (qo_v x3) (qo_v r_16)) h (fun h => ?_) (fun h => ?_)
      · refine qo_nm (qo_e_ad (qo_v x3) qo_k1) h (fun x3_21 h => ?_)
        exact ih (qo_v x2) (qo_v x3_21) h
      · refine qo_in (by decide) (qo_v x3) h (fun hi_1 h => ?_)
        refine qo_nm (qo_e_or (qo_v x2) (qo_e_gt a2 (qo_v x3))) h (fun x2_19 h => ?_)
        refine qo_nm (qo_e_ad (qo_v x3) qo_k1) h (fun x3_20 h => ?_)
        exact ih (qo_v x2_19) (qo_v x3_20) h
noncomputable def qm_p_fewer (f0_lead f0_played a2 a3 p0 : Nat) (k : Nat → Bool) : Bool := (qm_fewer_4 p0 f0_lead f0_played a2 a3 k 5 0 0)
theorem qt_p_fewer {post : Int32 → Prop} {f0_on : Int32} {f0_trump : Int32} {f0_lead : Nat} {f0_played : Nat} {f0_firstWon : Int32} {f0_secondWon : Int32} {f0_steps : Int32} {f0_kind : Int32} {f0_entered : Int32} {a1 : Nat → Int32} {a2 : Nat} {a3 : Nat} {a4 : Nat → Int32} {a5 : Nat → Int32} {a6 : Nat → Int32} {a7 : Nat → Int32} {a8 : Nat → Int32} {a9 : Nat → Int32} {a10 : Nat → Int32} {a11 : Nat → Int32} {a12 : Nat → Int32} {a13 : Nat → Int64} {a14 : Nat → Int32} {p0_i : Int32} {p0 : Nat} {k : Nat → Bool} (e_p0 : p0_i = nI p0) (hk : ∀ r : Nat, k r = true → post (nI r)) (h : qm_p_fewer f0_lead f0_played a2 a3 p0 k = true) : wpX_fewer post (f0_on, f0_trump, nI f0_lead, nI f0_played, f0_firstWon, f0_secondWon, f0_steps, f0_kind, f0_entered, a1, qo_ar a2, qo_ar a3, a4, a5, a6, a7, a8, a9, a10, a11, a12, a13, a14) p0_i := by
  subst e_p0
  unfold qm_p_fewer at h
  unfold wpX_fewer
  exact ⟨5, qt_fewer_4 (qo_v p0) hk _ qo_k0 qo_k0 h⟩
noncomputable def qm_p_gained (f0_firstWon f0_kind : Nat) (k : Nat → Bool) : Bool := (qo_if (qo_eq f0_kind 2) (qo_fz 0 k) (k f0_firstWon))
theorem qt_p_gained {post : Int32 → Prop} {f0_on : Int32} {f0_trump : Int32} {f0_lead : Int32} {f0_played : Int32} {f0_firstWon : Nat} {f0_secondWon : Int32} {f0_steps : Int32} {f0_kind : Nat} {f0_entered : Int32} {a1 : Nat → Int32} {a2 : Nat → Int32} {a3 : Nat → Int32} {a4 : Nat → Int32} {a5 : Nat → Int32} {a6 : Nat → Int32} {a7 : Nat → Int32} {a8 : Nat → Int32} {a9 : Nat → Int32} {a10 : Nat → Int32} {a11 : Nat → Int32} {a12 : Nat → Int32} {a13 : Nat → Int64} {a14 : Nat → Int32} {k : Nat → Bool} (hk : ∀ r : Nat, k r = true → post (nI r)) (h : qm_p_gained f0_firstWon f0_kind k = true) : wpX_gained post (f0_on, f0_trump, f0_lead, f0_played, nI f0_firstWon, f0_secondWon, f0_steps, nI f0_kind, f0_entered, a1, a2, a3, a4, a5, a6, a7, a8, a9, a10, a11, a12, a13, a14) := by
  unfold qm_p_gained at h
  unfold wpX_gained
  refine qo_br (qo_i_eq (qo_v f0_kind) qo_k2) h (fun h => ?_) (fun h => ?_)
  · exact qo_po qo_k0 h hk
  · exact hk f0_firstWon h
noncomputable def qm_p_raising (f0_lead f0_played f0_kind : Nat) (k : Nat → Bool) : Bool := (qo_if (qo_eq f0_kind 0) (qm_p_mover f0_lead f0_played (fun r_2 => (qo_if (qo_eq (Nat.land r_2 1) 0) (qo_fz 1 k) (qo_fz 0 k)))) (qo_fz 0 k))
theorem qt_p_raising {post : Int32 → Prop} {f0_on : Int32} {f0_trump : Int32} {f0_lead : Nat} {f0_played : Nat} {f0_firstWon : Int32} {f0_secondWon : Int32} {f0_steps : Int32} {f0_kind : Nat} {f0_entered : Int32} {a1 : Nat → Int32} {a2 : Nat → Int32} {a3 : Nat → Int32} {a4 : Nat → Int32} {a5 : Nat → Int32} {a6 : Nat → Int32} {a7 : Nat → Int32} {a8 : Nat → Int32} {a9 : Nat → Int32} {a10 : Nat → Int32} {a11 : Nat → Int32} {a12 : Nat → Int32} {a13 : Nat → Int64} {a14 : Nat → Int32} {k : Nat → Bool} (hk : ∀ r : Nat, k r = true → post (nI r)) (h : qm_p_raising f0_lead f0_played f0_kind k = true) : wpX_raising post (f0_on, f0_trump, nI f0_lead, nI f0_played, f0_firstWon, f0_secondWon, f0_steps, nI f0_kind, f0_entered, a1, a2, a3, a4, a5, a6, a7, a8, a9, a10, a11, a12, a13, a14) := by
  unfold qm_p_raising at h
  unfold wpX_raising
  refine qo_br (qo_i_eq (qo_v f0_kind) qo_k0) h (fun h => ?_) (fun h => ?_)
  · refine qt_p_mover  (fun r_2 h => ?_) h
    refine qo_br (qo_i_eq (qo_e_an (qo_v r_2) qo_k1) qo_k0) h (fun h => ?_) (fun h => ?_)
    · exact qo_po qo_k1 h hk
    · exact qo_po qo_k0 h hk
  · exact qo_po qo_k0 h hk
noncomputable def qm_begin_27 (x1 z0 z1 f0_on f0_trump f0_lead f0_played f0_firstWon f0_secondWon f0_steps f0_kind f0_entered a1 a2 a3 a4 a5 a6 a7 a8 a9 a10 a11 a12 a13 a14 : Nat) (k : Nat → Nat → Nat → Nat → Nat → Nat → Nat → Nat → Nat → Nat → Nat → Nat → Nat → Nat → Nat → Nat → Nat → Nat → Nat → Nat → Nat → Nat → Nat → Bool) : Bool := (qo_nd (Nat.ble (Nat.succ z1) 14) (qo_fz (qo_st a10 (qo_cl z1) z0) (fun a10_5 => (qm_p_gained f0_firstWon f0_kind (fun r_6 => (qo_nd (Nat.ble (Nat.succ x1) 14) (qo_fz (qo_st a12 (qo_cl x1) r_6) (fun a12_8 => (qo_if (qo_eq f0_kind 2) (qo_fz (qo_st a11 (qo_cl x1) 0) (fun a11_17 => (k f0_on f0_trump f0_lead f0_played f0_firstWon f0_secondWon f0_steps f0_kind f0_entered a1 a2 a3 a4 a5 a6 a7 a8 a9 a10_5 a11_17 a12_8 a13 a14))) (qm_p_raising f0_lead f0_played f0_kind (fun r_10 => (qo_if (qo_eq r_10 0) (qo_fz (qo_st a11 (qo_cl x1) 100) (fun a11_13 => (k f0_on f0_trump f0_lead f0_played f0_firstWon f0_secondWon f0_steps f0_kind f0_entered a1 a2 a3 a4 a5 a6 a7 a8 a9 a10_5 a11_13 a12_8 a13 a14))) (qo_fz (qo_st a11 (qo_cl x1) 4294967295) (fun a11_15 => (k f0_on f0_trump f0_lead f0_played f0_firstWon f0_secondWon f0_steps f0_kind f0_entered a1 a2 a3 a4 a5 a6 a7 a8 a9 a10_5 a11_15 a12_8 a13 a14)))))))))))))))
theorem qt_begin_27 {post : St2 → Prop} {x1_i : Int32} {x1 : Nat} {z0_i : Int32} {z0 : Nat} {z1_i : Int32} {z1 : Nat} {f0_on : Nat} {f0_trump : Nat} {f0_lead : Nat} {f0_played : Nat} {f0_firstWon : Nat} {f0_secondWon : Nat} {f0_steps : Nat} {f0_kind : Nat} {f0_entered : Nat} {a1 : Nat} {a2 : Nat} {a3 : Nat} {a4 : Nat} {a5 : Nat} {a6 : Nat} {a7 : Nat} {a8 : Nat} {a9 : Nat} {a10 : Nat} {a11 : Nat} {a12 : Nat} {a13 : Nat} {a14 : Nat} {k : Nat → Nat → Nat → Nat → Nat → Nat → Nat → Nat → Nat → Nat → Nat → Nat → Nat → Nat → Nat → Nat → Nat → Nat → Nat → Nat → Nat → Nat → Nat → Bool} (e_x1 : x1_i = nI x1) (e_z0 : z0_i = nI z0) (e_z1 : z1_i = nI z1) (hk : ∀ (s0 s1 s2 s3 s4 s5 s6 s7 s8 s9 s10 s11 s12 s13 s14 s15 s16 s17 s18 s19 s20 s21 s22 : Nat), k s0 s1 s2 s3 s4 s5 s6 s7 s8 s9 s10 s11 s12 s13 s14 s15 s16 s17 s18 s19 s20 s21 s22 = true → post (nI s0, nI s1, nI s2, nI s3, nI s4, nI s5, nI s6, nI s7, nI s8, qo_ar s9, qo_ar s10, qo_ar s11, qo_ar s12, qo_ar s13, qo_ar s14, qo_ar s15, qo_ar s16, qo_ar s17, qo_ar s18, qo_ar s19, qo_ar s20, qo_aL s21, qo_ar s22)) (h : qm_begin_27 x1 z0 z1 f0_on f0_trump f0_lead f0_played f0_firstWon f0_secondWon f0_steps f0_kind f0_entered a1 a2 a3 a4 a5 a6 a7 a8 a9 a10 a11 a12 a13 a14 k = true) : wX_begin_27 post x1_i z0_i z1_i (nI f0_on) (nI f0_trump) (nI f0_lead) (nI f0_played) (nI f0_firstWon) (nI f0_secondWon) (nI f0_steps) (nI f0_kind) (nI f0_entered) (qo_ar a1) (qo_ar a2) (qo_ar a3) (qo_ar a4) (qo_ar a5) (qo_ar a6) (qo_ar a7) (qo_ar a8) (qo_ar a9) (qo_ar a10) (qo_ar a11) (qo_ar a12) (qo_aL a13) (qo_ar a14) := by
  subst e_x1
  subst e_z0
  subst e_z1
  unfold qm_begin_27 at h
  unfold wX_begin_27
  refine qo_in (by decide) (qo_v z1) h (fun hi_1 h => ?_)
  refine qo_nA (qo_e_st a10 (qo_v z1) (qo_v z0)) h (fun a10_5 h => ?_)
  refine qt_p_gained  (fun r_6 h => ?_) h
  refine qo_in (by decide) (qo_v x1) h (fun hi_2 h => ?_)
  refine qo_nA (qo_e_st a12 (qo_v x1) (qo_v r_6)) h (fun a12_8 h => ?_)
  refine qo_br (qo_i_eq (qo_v f0_kind) qo_k2) h (fun h => ?_) (fun h => ?_)
  · refine ⟨hi_2, ?_⟩
    refine qo_nA (qo_e_st a11 (qo_v x1) qo_k0) h (fun a11_17 h => ?_)
    exact hk f0_on f0_trump f0_lead f0_played f0_firstWon f0_secondWon f0_steps f0_kind f0_entered a1 a2 a3 a4 a5 a6 a7 a8 a9 a10_5 a11_17 a12_8 a13 a14 h
  · refine qt_p_raising  (fun r_10 h => ?_) h
    refine qo_br (qo_i_eq (qo_v r_10) qo_k0) h (fun h => ?_) (fun h => ?_)
    · refine ⟨hi_2, ?_⟩
      refine qo_nA (qo_e_st a11 (qo_v x1) qo_k100) h (fun a11_13 h => ?_)
      exact hk f0_on f0_trump f0_lead f0_played f0_firstWon f0_secondWon f0_steps f0_kind f0_entered a1 a2 a3 a4 a5 a6 a7 a8 a9 a10_5 a11_13 a12_8 a13 a14 h
    · refine ⟨hi_2, ?_⟩
      refine qo_nA (qo_e_st a11 (qo_v x1) qo_km1) h (fun a11_15 h => ?_)
      exact hk f0_on f0_trump f0_lead f0_played f0_firstWon f0_secondWon f0_steps f0_kind f0_entered a1 a2 a3 a4 a5 a6 a7 a8 a9 a10_5 a11_15 a12_8 a13 a14 h
noncomputable def qm_p_begin (f0_on f0_trump f0_lead f0_played f0_firstWon f0_secondWon f0_steps f0_kind f0_entered a1 a2 a3 a4 a5 a6 a7 a8 a9 a10 a11 a12 a13 a14 p0 : Nat) (k : Nat → Nat → Nat → Nat → Nat → Nat → Nat → Nat → Nat → Nat → Nat → Nat → Nat → Nat → Nat → Nat → Nat → Nat → Nat → Nat → Nat → Nat → Nat → Bool) : Bool := (qm_p_legalNow f0_lead f0_played a2 a3 (fun r_1 => (qo_if (qo_eq f0_kind 2) (qm_begin_27 p0 r_1 p0 f0_on f0_trump f0_lead f0_played f0_firstWon f0_secondWon f0_steps f0_kind f0_entered a1 a2 a3 a4 a5 a6 a7 a8 a9 a10 a11 a12 a13 a14 k) (qm_p_fewer f0_lead f0_played a2 a3 r_1 (fun r_3 => (qm_begin_27 p0 r_3 p0 f0_on f0_trump f0_lead f0_played f0_firstWon f0_secondWon f0_steps f0_kind f0_entered a1 a2 a3 a4 a5 a6 a7 a8 a9 a10 a11 a12 a13 a14 k))))))
theorem qt_p_begin {post : St2 → Prop} {f0_on : Nat} {f0_trump : Nat} {f0_lead : Nat} {f0_played : Nat} {f0_firstWon : Nat} {f0_secondWon : Nat} {f0_steps : Nat} {f0_kind : Nat} {f0_entered : Nat} {a1 : Nat} {a2 : Nat} {a3 : Nat} {a4 : Nat} {a5 : Nat} {a6 : Nat} {a7 : Nat} {a8 : Nat} {a9 : Nat} {a10 : Nat} {a11 : Nat} {a12 : Nat} {a13 : Nat} {a14 : Nat} {p0_i : Int32} {p0 : Nat} {k : Nat → Nat → Nat → Nat → Nat → Nat → Nat → Nat → Nat → Nat → Nat → Nat → Nat → Nat → Nat → Nat → Nat → Nat → Nat → Nat → Nat → Nat → Nat → Bool} (e_p0 : p0_i = nI p0) (hk : ∀ (s0 s1 s2 s3 s4 s5 s6 s7 s8 s9 s10 s11 s12 s13 s14 s15 s16 s17 s18 s19 s20 s21 s22 : Nat), k s0 s1 s2 s3 s4 s5 s6 s7 s8 s9 s10 s11 s12 s13 s14 s15 s16 s17 s18 s19 s20 s21 s22 = true → post (nI s0, nI s1, nI s2, nI s3, nI s4, nI s5, nI s6, nI s7, nI s8, qo_ar s9, qo_ar s10, qo_ar s11, qo_ar s12, qo_ar s13, qo_ar s14, qo_ar s15, qo_ar s16, qo_ar s17, qo_ar s18, qo_ar s19, qo_ar s20, qo_aL s21, qo_ar s22)) (h : qm_p_begin f0_on f0_trump f0_lead f0_played f0_firstWon f0_secondWon f0_steps f0_kind f0_entered a1 a2 a3 a4 a5 a6 a7 a8 a9 a10 a11 a12 a13 a14 p0 k = true) : wpX_begin post (nI f0_on, nI f0_trump, nI f0_lead, nI f0_played, nI f0_firstWon, nI f0_secondWon, nI f0_steps, nI f0_kind, nI f0_entered, qo_ar a1, qo_ar a2, qo_ar a3, qo_ar a4, qo_ar a5, qo_ar a6, qo_ar a7, qo_ar a8, qo_ar a9, qo_ar a10, qo_ar a11, qo_ar a12, qo_aL a13, qo_ar a14) p0_i := by
  subst e_p0
  unfold qm_p_begin at h
  unfold wpX_begin
  refine qt_p_legalNow  (fun r_1 h => ?_) h
  refine qo_br (qo_i_eq (qo_v f0_kind) qo_k2) h (fun h => ?_) (fun h => ?_)
  · exact qt_begin_27 (qo_v p0) (qo_v r_1) (qo_v p0) hk h
  · refine qt_p_fewer (qo_v r_1) (fun r_3 h => ?_) h
    exact qt_begin_27 (qo_v p0) (qo_v r_3) (qo_v p0) hk h
noncomputable def qm_p_count (f0_on f0_trump f0_lead f0_played f0_firstWon f0_secondWon f0_steps f0_kind f0_entered a1 a2 a3 a4 a5 a6 a7 a8 a9 a10 a11 a12 a13 a14 p0 p1 : Nat) (k : Nat → Nat → Nat → Nat → Nat → Nat → Nat → Nat → Nat → Nat → Nat → Nat → Nat → Nat → Nat → Nat → Nat → Nat → Nat → Nat → Nat → Nat → Nat → Bool) : Bool := (qo_if (qo_eq f0_kind 2) (qo_nd (Nat.ble (Nat.succ p0) 14) (qo_fz (qo_st a11 (qo_cl p0) (qo_ad (qo_gt a11 (qo_cl p0)) p1)) (fun a11_20 => (k f0_on f0_trump f0_lead f0_played f0_firstWon f0_secondWon f0_steps f0_kind f0_entered a1 a2 a3 a4 a5 a6 a7 a8 a9 a10 a11_20 a12 a13 a14)))) (qm_p_raising f0_lead f0_played f0_kind (fun r_2 => (qo_if (qo_eq r_2 0) (qo_nd (Nat.ble (Nat.succ p0) 14) (qo_if (qo_le (qo_gt a11 (qo_cl p0)) p1) (qo_fz (qo_st a11 (qo_cl p0) (qo_gt a11 (qo_cl p0))) (fun a11_8 => (k f0_on f0_trump f0_lead f0_played f0_firstWon f0_secondWon f0_steps f0_kind f0_entered a1 a2 a3 a4 a5 a6 a7 a8 a9 a10 a11_8 a12 a13 a14))) (qo_fz (qo_st a11 (qo_cl p0) p1) (fun a11_10 => (k f0_on f0_trump f0_lead f0_played f0_firstWon f0_secondWon f0_steps f0_kind f0_entered a1 a2 a3 a4 a5 a6 a7 a8 a9 a10 a11_10 a12 a13 a14))))) (qo_nd (Nat.ble (Nat.succ p0) 14) (qo_if (qo_le p1 (qo_gt a11 (qo_cl p0))) (qo_fz (qo_st a11 (qo_cl p0) (qo_gt a11 (qo_cl p0))) (fun a11_15 => (k f0_on f0_trump f0_lead f0_played f0_firstWon f0_secondWon f0_steps f0_kind f0_entered a1 a2 a3 a4 a5 a6 a7 a8 a9 a10 a11_15 a12 a13 a14))) (qo_fz (qo_st a11 (qo_cl p0) p1) (fun a11_17 => (k f0_on f0_trump f0_lead f0_played f0_firstWon f0_secondWon f0_steps f0_kind f0_entered a1 a2 a3 a4 a5 a6 a7 a8 a9 a10 a11_17 a12 a13 a14)))))))))
theorem qt_p_count {post : St2 → Prop} {f0_on : Nat} {f0_trump : Nat} {f0_lead : Nat} {f0_played : Nat} {f0_firstWon : Nat} {f0_secondWon : Nat} {f0_steps : Nat} {f0_kind : Nat} {f0_entered : Nat} {a1 : Nat} {a2 : Nat} {a3 : Nat} {a4 : Nat} {a5 : Nat} {a6 : Nat} {a7 : Nat} {a8 : Nat} {a9 : Nat} {a10 : Nat} {a11 : Nat} {a12 : Nat} {a13 : Nat} {a14 : Nat} {p0_i : Int32} {p0 : Nat} {p1_i : Int32} {p1 : Nat} {k : Nat → Nat → Nat → Nat → Nat → Nat → Nat → Nat → Nat → Nat → Nat → Nat → Nat → Nat → Nat → Nat → Nat → Nat → Nat → Nat → Nat → Nat → Nat → Bool} (e_p0 : p0_i = nI p0) (e_p1 : p1_i = nI p1) (hk : ∀ (s0 s1 s2 s3 s4 s5 s6 s7 s8 s9 s10 s11 s12 s13 s14 s15 s16 s17 s18 s19 s20 s21 s22 : Nat), k s0 s1 s2 s3 s4 s5 s6 s7 s8 s9 s10 s11 s12 s13 s14 s15 s16 s17 s18 s19 s20 s21 s22 = true → post (nI s0, nI s1, nI s2, nI s3, nI s4, nI s5, nI s6, nI s7, nI s8, qo_ar s9, qo_ar s10, qo_ar s11, qo_ar s12, qo_ar s13, qo_ar s14, qo_ar s15, qo_ar s16, qo_ar s17, qo_ar s18, qo_ar s19, qo_ar s20, qo_aL s21, qo_ar s22)) (h : qm_p_count f0_on f0_trump f0_lead f0_played f0_firstWon f0_secondWon f0_steps f0_kind f0_entered a1 a2 a3 a4 a5 a6 a7 a8 a9 a10 a11 a12 a13 a14 p0 p1 k = true) : wpX_count post (nI f0_on, nI f0_trump, nI f0_lead, nI f0_played, nI f0_firstWon, nI f0_secondWon, nI f0_steps, nI f0_kind, nI f0_entered, qo_ar a1, qo_ar a2, qo_ar a3, qo_ar a4, qo_ar a5, qo_ar a6, qo_ar a7, qo_ar a8, qo_ar a9, qo_ar a10, qo_ar a11, qo_ar a12, qo_aL a13, qo_ar a14) p0_i p1_i := by
  subst e_p0
  subst e_p1
  unfold qm_p_count at h
  unfold wpX_count
  refine qo_br (qo_i_eq (qo_v f0_kind) qo_k2) h (fun h => ?_) (fun h => ?_)
  · refine qo_in (by decide) (qo_v p0) h (fun hi_1 h => ?_)
    refine ⟨hi_1, ?_⟩
    refine qo_nA (qo_e_st a11 (qo_v p0) (qo_e_ad (qo_e_gt a11 (qo_v p0)) (qo_v p1))) h (fun a11_20 h => ?_)
    exact hk f0_on f0_trump f0_lead f0_played f0_firstWon f0_secondWon f0_steps f0_kind f0_entered a1 a2 a3 a4 a5 a6 a7 a8 a9 a10 a11_20 a12 a13 a14 h
  · refine qt_p_raising  (fun r_2 h => ?_) h
    refine qo_br (qo_i_eq (qo_v r_2) qo_k0) h (fun h => ?_) (fun h => ?_)
    · refine qo_in (by decide) (qo_v p0) h (fun hi_2 h => ?_)
      refine qo_br (qo_i_le (qo_e_gt a11 (qo_v p0)) (qo_v p1)) h (fun h => ?_) (fun h => ?_)
      · refine ⟨hi_2, ?_⟩
        refine ⟨hi_2, ?_⟩
        refine qo_nA (qo_e_st a11 (qo_v p0) (qo_e_gt a11 (qo_v p0))) h (fun a11_8 h => ?_)
        exact hk f0_on f0_trump f0_lead f0_played f0_firstWon f0_secondWon f0_steps f0_kind f0_entered a1 a2 a3 a4 a5 a6 a7 a8 a9 a10 a11_8 a12 a13 a14 h
      · refine ⟨hi_2, ?_⟩
        refine qo_nA (qo_e_st a11 (qo_v p0) (qo_v p1)) h (fun a11_10 h => ?_)
        exact hk f0_on f0_trump f0_lead f0_played f0_firstWon f0_secondWon f0_steps f0_kind f0_entered a1 a2 a3 a4 a5 a6 a7 a8 a9 a10 a11_10 a12 a13 a14 h
    · refine qo_in (by decide) (qo_v p0) h (fun hi_3 h => ?_)
      refine qo_br (qo_i_le (qo_v p1) (qo_e_gt a11 (qo_v p0))) h (fun h => ?_) (fun h => ?_)
      · refine ⟨hi_3, ?_⟩
        refine ⟨hi_3, ?_⟩
        refine qo_nA (qo_e_st a11 (qo_v p0) (qo_e_gt a11 (qo_v p0))) h (fun a11_15 h => ?_)
        exact hk f0_on f0_trump f0_lead f0_played f0_firstWon f0_secondWon f0_steps f0_kind f0_entered a1 a2 a3 a4 a5 a6 a7 a8 a9 a10 a11_15 a12 a13 a14 h
      · refine ⟨hi_3, ?_⟩
        refine qo_nA (qo_e_st a11 (qo_v p0) (qo_v p1)) h (fun a11_17 h => ?_)
        exact hk f0_on f0_trump f0_lead f0_played f0_firstWon f0_secondWon f0_steps f0_kind f0_entered a1 a2 a3 a4 a5 a6 a7 a8 a9 a10 a11_17 a12 a13 a14 h
noncomputable def qm_remember_43 (x1 x3 x4 z0 f0_on f0_trump f0_lead f0_played f0_firstWon f0_secondWon f0_steps f0_kind a1 a2 a3 a4 a5 a6 a7 a8 a9 a10 a11 a12 a13 a14 : Nat) (k : Nat → Nat → Nat → Nat → Nat → Nat → Nat → Nat → Nat → Nat → Nat → Nat → Nat → Nat → Nat → Nat → Nat → Nat → Nat → Nat → Nat → Nat → Nat → Bool) : Bool := (qo_nd (Nat.ble (Nat.succ x4) 2048) (qo_fz (qo_sL a13 (qo_cl x4) x1) (fun a13_6 => (qo_fz (qo_st a14 (qo_cl x4) x3) (fun a14_8 => (k f0_on f0_trump f0_lead f0_played f0_firstWon f0_secondWon f0_steps f0_kind z0 a1 a2 a3 a4 a5 a6 a7 a8 a9 a10 a11 a12 a13_6 a14_8))))))
theorem qt_remember_43 {post : St2 → Prop} {x1_i : Int64} {x1 : Nat} {x3_i : Int32} {x3 : Nat} {x4_i : Int32} {x4 : Nat} {z0_i : Int32} {z0 : Nat} {f0_on : Nat} {f0_trump : Nat} {f0_lead : Nat} {f0_played : Nat} {f0_firstWon : Nat} {f0_secondWon : Nat} {f0_steps : Nat} {f0_kind : Nat} {f0_entered : Int32} {a1 : Nat} {a2 : Nat} {a3 : Nat} {a4 : Nat} {a5 : Nat} {a6 : Nat} {a7 : Nat} {a8 : Nat} {a9 : Nat} {a10 : Nat} {a11 : Nat} {a12 : Nat} {a13 : Nat} {a14 : Nat} {k : Nat → Nat → Nat → Nat → Nat → Nat → Nat → Nat → Nat → Nat → Nat → Nat → Nat → Nat → Nat → Nat → Nat → Nat → Nat → Nat → Nat → Nat → Nat → Bool} (e_x1 : x1_i = lN x1) (e_x3 : x3_i = nI x3) (e_x4 : x4_i = nI x4) (e_z0 : z0_i = nI z0) (hk : ∀ (s0 s1 s2 s3 s4 s5 s6 s7 s8 s9 s10 s11 s12 s13 s14 s15 s16 s17 s18 s19 s20 s21 s22 : Nat), k s0 s1 s2 s3 s4 s5 s6 s7 s8 s9 s10 s11 s12 s13 s14 s15 s16 s17 s18 s19 s20 s21 s22 = true → post (nI s0, nI s1, nI s2, nI s3, nI s4, nI s5, nI s6, nI s7, nI s8, qo_ar s9, qo_ar s10, qo_ar s11, qo_ar s12, qo_ar s13, qo_ar s14, qo_ar s15, qo_ar s16, qo_ar s17, qo_ar s18, qo_ar s19, qo_ar s20, qo_aL s21, qo_ar s22)) (h : qm_remember_43 x1 x3 x4 z0 f0_on f0_trump f0_lead f0_played f0_firstWon f0_secondWon f0_steps f0_kind a1 a2 a3 a4 a5 a6 a7 a8 a9 a10 a11 a12 a13 a14 k = true) : wX_remember_43 post x1_i x3_i x4_i z0_i (nI f0_on) (nI f0_trump) (nI f0_lead) (nI f0_played) (nI f0_firstWon) (nI f0_secondWon) (nI f0_steps) (nI f0_kind) f0_entered (qo_ar a1) (qo_ar a2) (qo_ar a3) (qo_ar a4) (qo_ar a5) (qo_ar a6) (qo_ar a7) (qo_ar a8) (qo_ar a9) (qo_ar a10) (qo_ar a11) (qo_ar a12) (qo_aL a13) (qo_ar a14) := by
  subst e_x1
  subst e_x3
  subst e_x4
  subst e_z0
  unfold qm_remember_43 at h
  unfold wX_remember_43
  refine qo_in (by decide) (qo_v x4) h (fun hi_1 h => ?_)
  refine qo_nAL (qo_e_sL a13 (qo_v x4) (qo_vL x1)) h (fun a13_6 h => ?_)
  refine ⟨hi_1, ?_⟩
  refine qo_nA (qo_e_st a14 (qo_v x4) (qo_v x3)) h (fun a14_8 h => ?_)
  exact hk f0_on f0_trump f0_lead f0_played f0_firstWon f0_secondWon f0_steps f0_kind z0 a1 a2 a3 a4 a5 a6 a7 a8 a9 a10 a11 a12 a13_6 a14_8 h
noncomputable def qm_p_remember (f0_on f0_trump f0_lead f0_played f0_firstWon f0_secondWon f0_steps f0_kind f0_entered a1 a2 a3 a4 a5 a6 a7 a8 a9 a10 a11 a12 a13 a14 p0 p1 : Nat) (k : Nat → Nat → Nat → Nat → Nat → Nat → Nat → Nat → Nat → Nat → Nat → Nat → Nat → Nat → Nat → Nat → Nat → Nat → Nat → Nat → Nat → Nat → Nat → Bool) : Bool := (qo_if (qo_le 1948 f0_entered) (k f0_on f0_trump f0_lead f0_played f0_firstWon f0_secondWon f0_steps f0_kind f0_entered a1 a2 a3 a4 a5 a6 a7 a8 a9 a10 a11 a12 a13 a14) (qm_p_slotFor a13 p0 (fun r_2 => (qo_nd (Nat.ble (Nat.succ r_2) 2048) (qo_if (qo_eqL (qo_gL a13 (qo_cl r_2)) 0) (qo_fz (qo_ad f0_entered 1) (fun y_2 => (qm_remember_43 p0 p1 r_2 y_2 f0_on f0_trump f0_lead f0_played f0_firstWon f0_secondWon f0_steps f0_kind a1 a2 a3 a4 a5 a6 a7 a8 a9 a10 a11 a12 a13 a14 k))) (qm_remember_43 p0 p1 r_2 f0_entered f0_on f0_trump f0_lead f0_played f0_firstWon f0_secondWon f0_steps f0_kind a1 a2 a3 a4 a5 a6 a7 a8 a9 a10 a11 a12 a13 a14 k))))))
theorem qt_p_remember {post : St2 → Prop} {f0_on : Nat} {f0_trump : Nat} {f0_lead : Nat} {f0_played : Nat} {f0_firstWon : Nat} {f0_secondWon : Nat} {f0_steps : Nat} {f0_kind : Nat} {f0_entered : Nat} {a1 : Nat} {a2 : Nat} {a3 : Nat} {a4 : Nat} {a5 : Nat} {a6 : Nat} {a7 : Nat} {a8 : Nat} {a9 : Nat} {a10 : Nat} {a11 : Nat} {a12 : Nat} {a13 : Nat} {a14 : Nat} {p0_i : Int64} {p0 : Nat} {p1_i : Int32} {p1 : Nat} {k : Nat → Nat → Nat → Nat → Nat → Nat → Nat → Nat → Nat → Nat → Nat → Nat → Nat → Nat → Nat → Nat → Nat → Nat → Nat → Nat → Nat → Nat → Nat → Bool} (e_p0 : p0_i = lN p0) (e_p1 : p1_i = nI p1) (hk : ∀ (s0 s1 s2 s3 s4 s5 s6 s7 s8 s9 s10 s11 s12 s13 s14 s15 s16 s17 s18 s19 s20 s21 s22 : Nat), k s0 s1 s2 s3 s4 s5 s6 s7 s8 s9 s10 s11 s12 s13 s14 s15 s16 s17 s18 s19 s20 s21 s22 = true → post (nI s0, nI s1, nI s2, nI s3, nI s4, nI s5, nI s6, nI s7, nI s8, qo_ar s9, qo_ar s10, qo_ar s11, qo_ar s12, qo_ar s13, qo_ar s14, qo_ar s15, qo_ar s16, qo_ar s17, qo_ar s18, qo_ar s19, qo_ar s20, qo_aL s21, qo_ar s22)) (h : qm_p_remember f0_on f0_trump f0_lead f0_played f0_firstWon f0_secondWon f0_steps f0_kind f0_entered a1 a2 a3 a4 a5 a6 a7 a8 a9 a10 a11 a12 a13 a14 p0 p1 k = true) : wpX_remember post (nI f0_on, nI f0_trump, nI f0_lead, nI f0_played, nI f0_firstWon, nI f0_secondWon, nI f0_steps, nI f0_kind, nI f0_entered, qo_ar a1, qo_ar a2, qo_ar a3, qo_ar a4, qo_ar a5, qo_ar a6, qo_ar a7, qo_ar a8, qo_ar a9, qo_ar a10, qo_ar a11, qo_ar a12, qo_aL a13, qo_ar a14) p0_i p1_i := by
  subst e_p0
  subst e_p1
  unfold qm_p_remember at h
  unfold wpX_remember
  refine qo_br (qo_i_le qo_k1948 (qo_v f0_entered)) h (fun h => ?_) (fun h => ?_)
  · exact hk f0_on f0_trump f0_lead f0_played f0_firstWon f0_secondWon f0_steps f0_kind f0_entered a1 a2 a3 a4 a5 a6 a7 a8 a9 a10 a11 a12 a13 a14 h
  · refine qt_p_slotFor (qo_vL p0) (fun r_2 h => ?_) h
    refine qo_in (by decide) (qo_v r_2) h (fun hi_1 h => ?_)
    refine qo_br (qo_i_eqL (qo_e_gL a13 (qo_v r_2)) qo_k0L) h (fun h => ?_) (fun h => ?_)
    · rw [qo_fz_e] at h
      exact qt_remember_43 (qo_vL p0) (qo_v p1) (qo_v r_2) (qo_e_ad (qo_v f0_entered) qo_k1) hk h
    · exact qt_remember_43 (qo_vL p0) (qo_v p1) (qo_v r_2) (qo_v f0_entered) hk h
noncomputable def qm_p_strength (f0_trump a3 p0 : Nat) (k : Nat → Bool) : Bool := (qo_if (qo_eq (qo_dv p0 4) f0_trump) (qo_fz (qo_ad 10 (qo_su p0 (qo_mu (qo_dv p0 4) 4))) k) (qo_if (qo_eq (qo_dv p0 4) (qo_dv (qo_gt a3 0) 4)) (qo_fz (qo_ad 1 (qo_su p0 (qo_mu (qo_dv p0 4) 4))) k) (qo_fz 0 k)))
theorem qt_p_strength {post : Int32 → Prop} {f0_on : Int32} {f0_trump : Nat} {f0_lead : Int32} {f0_played : Int32} {f0_firstWon : Int32} {f0_secondWon : Int32} {f0_steps : Int32} {f0_kind : Int32} {f0_entered : Int32} {a1 : Nat → Int32} {a2 : Nat → Int32} {a3 : Nat} {a4 : Nat → Int32} {a5 : Nat → Int32} {a6 : Nat → Int32} {a7 : Nat → Int32} {a8 : Nat → Int32} {a9 : Nat → Int32} {a10 : Nat → Int32} {a11 : Nat → Int32} {a12 : Nat → Int32} {a13 : Nat → Int64} {a14 : Nat → Int32} {p0_i : Int32} {p0 : Nat} {k : Nat → Bool} (e_p0 : p0_i = nI p0) (hk : ∀ r : Nat, k r = true → post (nI r)) (h : qm_p_strength f0_trump a3 p0 k = true) : wpX_strength post (f0_on, nI f0_trump, f0_lead, f0_played, f0_firstWon, f0_secondWon, f0_steps, f0_kind, f0_entered, a1, a2, qo_ar a3, a4, a5, a6, a7, a8, a9, a10, a11, a12, a13, a14) p0_i := by
  subst e_p0
  unfold qm_p_strength at h
  unfold wpX_strength
  refine ⟨by decide, ?_⟩
  refine qo_br (qo_i_eq (qo_e_dv (qo_v p0) qo_k4) (qo_v f0_trump)) h (fun h => ?_) (fun h => ?_)
  · refine ⟨by decide, ?_⟩
    exact qo_po (qo_e_ad qo_k10 (qo_e_su (qo_v p0) (qo_e_mu (qo_e_dv (qo_v p0) qo_k4) qo_k4))) h hk
  · refine ⟨by decide, ?_⟩
    refine ⟨by decide, ?_⟩
    refine qo_br (qo_i_eq (qo_e_dv (qo_v p0) qo_k4) (qo_e_dv (qo_e_g0 a3 0) qo_k4)) h (fun h => ?_) (fun h => ?_)
    · refine ⟨by decide, ?_⟩
      exact qo_po (qo_e_ad qo_k1 (qo_e_su (qo_v p0) (qo_e_mu (qo_e_dv (qo_v p0) qo_k4) qo_k4))) h hk
    · exact qo_po qo_k0 h hk
noncomputable def qm_bestPlace_4_s (f0_trump f0_played a3 : Nat) (k : Nat → Bool) (J : Nat → Nat → Bool) (x1 x2 : Nat) : Bool := (qo_if (qo_le f0_played x2) (k x1) (qo_nd (Nat.ble (Nat.succ x2) 4) (qo_fz (qo_gt a3 (qo_cl x2)) (fun y_4 => (qm_p_strength f0_trump a3 y_4 (fun r_3 => (qo_nd (Nat.ble (Nat.succ x1) 4) (qo_fz (qo_gt a3 (qo_cl x1)) (fun y_3 => (qm_p_strength f0_trump a3 y_3 (fun r_5 => (qo_if (qo_le r_3 r_5) (qo_fz (qo_ad x2 1) (fun x2_7 => (J x1 x2_7))) (qo_fz (qo_ad x2 1) (fun x2_8 => (J x2 x2_8)))))))))))))))
noncomputable def qm_bestPlace_4 (f0_trump f0_played a3 : Nat) (k : Nat → Bool) (n : Nat) : Nat → Nat → Bool := Nat.rec (motive := fun _ => Nat → Nat → Bool) (fun _ _ => false) (fun _ J => qm_bestPlace_4_s f0_trump f0_played a3 k J) n
theorem qt_bestPlace_4 {post : Int32 → Prop} {f0_on : Int32} {f0_trump : Nat} {f0_lead : Int32} {f0_played : Nat} {f0_firstWon : Int32} {f0_secondWon : Int32} {f0_steps : Int32} {f0_kind : Int32} {f0_entered : Int32} {a1 : Nat → Int32} {a2 : Nat → Int32} {a3 : Nat} {a4 : Nat → Int32} {a5 : Nat → Int32} {a6 : Nat → Int32} {a7 : Nat → Int32} {a8 : Nat → Int32} {a9 : Nat → Int32} {a10 : Nat → Int32} {a11 : Nat → Int32} {a12 : Nat → Int32} {a13 : Nat → Int64} {a14 : Nat → Int32} {k : Nat → Bool} (hk : ∀ r : Nat, k r = true → post (nI r)) : ∀ (n : Nat) {x1_i : Int32} {x1 : Nat} {x2_i : Int32} {x2 : Nat} (e_x1 : x1_i = nI x1) (e_x2 : x2_i = nI x2), qm_bestPlace_4 f0_trump f0_played a3 k n x1 x2 = true → wX_bestPlace_4 post f0_on (nI f0_trump) f0_lead (nI f0_played) f0_firstWon f0_secondWon f0_steps f0_kind f0_entered a1 a2 (qo_ar a3) a4 a5 a6 a7 a8 a9 a10 a11 a12 a13 a14 n x1_i x2_i := by
  intro n
  induction n with
  | zero =>
    intros
    exact qo_no (by assumption)
  | succ n ih =>
    intro x1_i x1 x2_i x2 e_x1 e_x2 h
    subst e_x1
    subst e_x2
    replace h : qm_bestPlace_4_s f0_trump f0_played a3 k (qm_bestPlace_4 f0_trump f0_played a3 k n) x1 x2 = true := h
    unfold qm_bestPlace_4_s at h
    refine qo_br (qo_i_le (qo_v f0_played) (qo_v x2)) h (fun h => ?_) (fun h => ?_)
    · exact hk x1 h
    · refine qo_in (by decide) (qo_v x2) h (fun hi_1 h => ?_)
      rw [qo_fz_e] at h
      refine qt_p_strength (qo_e_gt a3 (qo_v x2)) (fun r_3 h => ?_) h
      refine qo_in (by decide) (qo_v x1) h (fun hi_2 h => ?_)
      rw [qo_fz_e] at h
      refine qt_p_strength (qo_e_gt a3 (qo_v x1)) (fun r_5 h => ?_) h
      refine qo_br (qo_i_le (qo_v r_3) (qo_v r_5)) h (fun h => ?_) (fun h => ?_)
      · refine qo_nm (qo_e_ad (qo_v x2) qo_k1) h (fun x2_7 h => ?_)
        exact ih (qo_v x1) (qo_v x2_7) h
      · refine qo_nm (qo_e_ad (qo_v x2) qo_k1) h (fun x2_8 h => ?_)
        exact ih (qo_v x2) (qo_v x2_8) h
noncomputable def qm_p_bestPlace (f0_trump f0_played a3 : Nat) (k : Nat → Bool) : Bool := (qm_bestPlace_4 f0_trump f0_played a3 k 5 0 1)
theorem qt_p_bestPlace {post : Int32 → Prop} {f0_on : Int32} {f0_trump : Nat} {f0_lead : Int32} {f0_played : Nat} {f0_firstWon : Int32} {f0_secondWon : Int32} {f0_steps : Int32} {f0_kind : Int32} {f0_entered : Int32} {a1 : Nat → Int32} {a2 : Nat → Int32} {a3 : Nat} {a4 : Nat → Int32} {a5 : Nat → Int32} {a6 : Nat → Int32} {a7 : Nat → Int32} {a8 : Nat → Int32} {a9 : Nat → Int32} {a10 : Nat → Int32} {a11 : Nat → Int32} {a12 : Nat → Int32} {a13 : Nat → Int64} {a14 : Nat → Int32} {k : Nat → Bool} (hk : ∀ r : Nat, k r = true → post (nI r)) (h : qm_p_bestPlace f0_trump f0_played a3 k = true) : wpX_bestPlace post (f0_on, nI f0_trump, f0_lead, nI f0_played, f0_firstWon, f0_secondWon, f0_steps, f0_kind, f0_entered, a1, a2, qo_ar a3, a4, a5, a6, a7, a8, a9, a10, a11, a12, a13, a14) := by
  unfold qm_p_bestPlace at h
  unfold wpX_bestPlace
  exact ⟨5, qt_bestPlace_4  hk _ qo_k0 qo_k1 h⟩
noncomputable def qm_push_211 (x3 z0 f0_on f0_trump f0_firstWon f0_steps f0_kind f0_entered a1 a2 a3 a4 a5 a6 a7 a8 a9 a10 a11 a12 a13 a14 : Nat) (k : Nat → Nat → Nat → Nat → Nat → Nat → Nat → Nat → Nat → Nat → Nat → Nat → Nat → Nat → Nat → Nat → Nat → Nat → Nat → Nat → Nat → Nat → Nat → Bool) : Bool := (k f0_on f0_trump x3 0 f0_firstWon z0 f0_steps f0_kind f0_entered a1 a2 a3 a4 a5 a6 a7 a8 a9 a10 a11 a12 a13 a14)
theorem qt_push_211 {post : St2 → Prop} {x3_i : Int32} {x3 : Nat} {z0_i : Int32} {z0 : Nat} {f0_on : Nat} {f0_trump : Nat} {f0_lead : Int32} {f0_played : Int32} {f0_firstWon : Nat} {f0_secondWon : Int32} {f0_steps : Nat} {f0_kind : Nat} {f0_entered : Nat} {a1 : Nat} {a2 : Nat} {a3 : Nat} {a4 : Nat} {a5 : Nat} {a6 : Nat} {a7 : Nat} {a8 : Nat} {a9 : Nat} {a10 : Nat} {a11 : Nat} {a12 : Nat} {a13 : Nat} {a14 : Nat} {k : Nat → Nat → Nat → Nat → Nat → Nat → Nat → Nat → Nat → Nat → Nat → Nat → Nat → Nat → Nat → Nat → Nat → Nat → Nat → Nat → Nat → Nat → Nat → Bool} (e_x3 : x3_i = nI x3) (e_z0 : z0_i = nI z0) (hk : ∀ (s0 s1 s2 s3 s4 s5 s6 s7 s8 s9 s10 s11 s12 s13 s14 s15 s16 s17 s18 s19 s20 s21 s22 : Nat), k s0 s1 s2 s3 s4 s5 s6 s7 s8 s9 s10 s11 s12 s13 s14 s15 s16 s17 s18 s19 s20 s21 s22 = true → post (nI s0, nI s1, nI s2, nI s3, nI s4, nI s5, nI s6, nI s7, nI s8, qo_ar s9, qo_ar s10, qo_ar s11, qo_ar s12, qo_ar s13, qo_ar s14, qo_ar s15, qo_ar s16, qo_ar s17, qo_ar s18, qo_ar s19, qo_ar s20, qo_aL s21, qo_ar s22)) (h : qm_push_211 x3 z0 f0_on f0_trump f0_firstWon f0_steps f0_kind f0_entered a1 a2 a3 a4 a5 a6 a7 a8 a9 a10 a11 a12 a13 a14 k = true) : wX_push_211 post x3_i z0_i (nI f0_on) (nI f0_trump) f0_lead f0_played (nI f0_firstWon) f0_secondWon (nI f0_steps) (nI f0_kind) (nI f0_entered) (qo_ar a1) (qo_ar a2) (qo_ar a3) (qo_ar a4) (qo_ar a5) (qo_ar a6) (qo_ar a7) (qo_ar a8) (qo_ar a9) (qo_ar a10) (qo_ar a11) (qo_ar a12) (qo_aL a13) (qo_ar a14) := by
  subst e_x3
  subst e_z0
  unfold qm_push_211 at h
  unfold wX_push_211
  exact hk f0_on f0_trump x3 0 f0_firstWon z0 f0_steps f0_kind f0_entered a1 a2 a3 a4 a5 a6 a7 a8 a9 a10 a11 a12 a13 a14 h
noncomputable def qm_push_187 (x3 z0 f0_on f0_trump f0_secondWon f0_steps f0_kind f0_entered a1 a2 a3 a4 a5 a6 a7 a8 a9 a10 a11 a12 a13 a14 : Nat) (k : Nat → Nat → Nat → Nat → Nat → Nat → Nat → Nat → Nat → Nat → Nat → Nat → Nat → Nat → Nat → Nat → Nat → Nat → Nat → Nat → Nat → Nat → Nat → Bool) : Bool := (qo_if (qo_eq (Nat.land x3 1) 1) (qo_fz (qo_ad f0_secondWon 1) (fun y_1 => (qm_push_211 x3 y_1 f0_on f0_trump z0 f0_steps f0_kind f0_entered a1 a2 a3 a4 a5 a6 a7 a8 a9 a10 a11 a12 a13 a14 k))) (qm_push_211 x3 f0_secondWon f0_on f0_trump z0 f0_steps f0_kind f0_entered a1 a2 a3 a4 a5 a6 a7 a8 a9 a10 a11 a12 a13 a14 k))
theorem qt_push_187 {post : St2 → Prop} {x3_i : Int32} {x3 : Nat} {z0_i : Int32} {z0 : Nat} {f0_on : Nat} {f0_trump : Nat} {f0_lead : Int32} {f0_played : Int32} {f0_firstWon : Int32} {f0_secondWon : Nat} {f0_steps : Nat} {f0_kind : Nat} {f0_entered : Nat} {a1 : Nat} {a2 : Nat} {a3 : Nat} {a4 : Nat} {a5 : Nat} {a6 : Nat} {a7 : Nat} {a8 : Nat} {a9 : Nat} {a10 : Nat} {a11 : Nat} {a12 : Nat} {a13 : Nat} {a14 : Nat} {k : Nat → Nat → Nat → Nat → Nat → Nat → Nat → Nat → Nat → Nat → Nat → Nat → Nat → Nat → Nat → Nat → Nat → Nat → Nat → Nat → Nat → Nat → Nat → Bool} (e_x3 : x3_i = nI x3) (e_z0 : z0_i = nI z0) (hk : ∀ (s0 s1 s2 s3 s4 s5 s6 s7 s8 s9 s10 s11 s12 s13 s14 s15 s16 s17 s18 s19 s20 s21 s22 : Nat), k s0 s1 s2 s3 s4 s5 s6 s7 s8 s9 s10 s11 s12 s13 s14 s15 s16 s17 s18 s19 s20 s21 s22 = true → post (nI s0, nI s1, nI s2, nI s3, nI s4, nI s5, nI s6, nI s7, nI s8, qo_ar s9, qo_ar s10, qo_ar s11, qo_ar s12, qo_ar s13, qo_ar s14, qo_ar s15, qo_ar s16, qo_ar s17, qo_ar s18, qo_ar s19, qo_ar s20, qo_aL s21, qo_ar s22)) (h : qm_push_187 x3 z0 f0_on f0_trump f0_secondWon f0_steps f0_kind f0_entered a1 a2 a3 a4 a5 a6 a7 a8 a9 a10 a11 a12 a13 a14 k = true) : wX_push_187 post x3_i z0_i (nI f0_on) (nI f0_trump) f0_lead f0_played f0_firstWon (nI f0_secondWon) (nI f0_steps) (nI f0_kind) (nI f0_entered) (qo_ar a1) (qo_ar a2) (qo_ar a3) (qo_ar a4) (qo_ar a5) (qo_ar a6) (qo_ar a7) (qo_ar a8) (qo_ar a9) (qo_ar a10) (qo_ar a11) (qo_ar a12) (qo_aL a13) (qo_ar a14) := by
  subst e_x3
  subst e_z0
  unfold qm_push_187 at h
  unfold wX_push_187
  refine qo_br (qo_i_eq (qo_e_an (qo_v x3) qo_k1) qo_k1) h (fun h => ?_) (fun h => ?_)
  · rw [qo_fz_e] at h
    exact qt_push_211 (qo_v x3) (qo_e_ad (qo_v f0_secondWon) qo_k1) hk h
  · exact qt_push_211 (qo_v x3) (qo_v f0_secondWon) hk h
noncomputable def qm_push_64_s (x1 f0_on f0_trump f0_lead f0_played f0_firstWon f0_secondWon f0_steps f0_kind f0_entered : Nat) (k : Nat → Nat → Nat → Nat → Nat → Nat → Nat → Nat → Nat → Nat → Nat → Nat → Nat → Nat → Nat → Nat → Nat → Nat → Nat → Nat → Nat → Nat → Nat → Bool) (J : Nat → Nat → Nat → Nat → Nat → Nat → Nat → Nat → Nat → Nat → Nat → Nat → Nat → Nat → Nat → Bool) (x2 a1 a2 a3 a4 a5 a6 a7 a8 a9 a10 a11 a12 a13 a14 : Nat) : Bool := (qo_if (qo_le 4 x2) (qo_fz (qo_ad f0_steps 1) (fun f_12 => (qm_p_mover f0_lead f0_played (fun r_13 => (qo_nd (Nat.ble (Nat.succ r_13) 4) (qo_fz (qo_st a2 (qo_cl r_13) (Nat.land (qo_gt a2 (qo_cl r_13)) (Nat.xor (qo_sl 1 x1) 4294967295))) (fun a2_16 => (qo_nd (Nat.ble (Nat.succ f0_played) 4) (qo_fz (qo_st a3 (qo_cl f0_played) x1) (fun a3_18 => (qo_fz (qo_ad f0_played 1) (fun f_19 => (qo_if (qo_eq f_19 4) (qm_p_bestPlace f0_trump f_19 a3_18 (fun r_21 => (qo_fz (Nat.land (qo_ad f0_lead r_21) 3) (fun x3_22 => (qo_if (qo_eq (Nat.land x3_22 1) 0) (qo_fz (qo_ad f0_firstWon 1) (fun y_3 => (qm_push_187 x3_22 y_3 f0_on f0_trump f0_secondWon f_12 f0_kind f0_entered a1 a2_16 a3_18 a4 a5 a6 a7 a8 a9 a10 a11 a12 a13 a14 k))) (qm_push_187 x3_22 f0_firstWon f0_on f0_trump f0_secondWon f_12 f0_kind f0_entered a1 a2_16 a3_18 a4 a5 a6 a7 a8 a9 a10 a11 a12 a13 a14 k)))))) (k f0_on f0_trump f0_lead f_19 f0_firstWon f0_secondWon f_12 f0_kind f0_entered a1 a2_16 a3_18 a4 a5 a6 a7 a8 a9 a10 a11 a12 a13 a14)))))))))))))) (qo_nd (Nat.ble (Nat.succ x2) 4) (qo_nd (Nat.ble (Nat.succ (qo_ad (qo_mu 4 f0_steps) x2)) 52) (qo_fz (qo_st a6 (qo_cl (qo_ad (qo_mu 4 f0_steps) x2)) (qo_gt a3 (qo_cl x2))) (fun a6_27 => (qo_fz (qo_ad x2 1) (fun x2_28 => (J x2_28 a1 a2 a3 a4 a5 a6_27 a7 a8 a9 a10 a11 a12 a13 a14))))))))
noncomputable def qm_push_64 (x1 f0_on f0_trump f0_lead f0_played f0_firstWon f0_secondWon f0_steps f0_kind f0_entered : Nat) (k : Nat → Nat → Nat → Nat → Nat → Nat → Nat → Nat → Nat → Nat → Nat → Nat → Nat → Nat → Nat → Nat → Nat → Nat → Nat → Nat → Nat → Nat → Nat → Bool) (n : Nat) : Nat → Nat → Nat → Nat → Nat → Nat → Nat → Nat → Nat → Nat → Nat → Nat → Nat → Nat → Nat → Bool := Nat.rec (motive := fun _ => Nat → Nat → Nat → Nat → Nat → Nat → Nat → Nat → Nat → Nat → Nat → Nat → Nat → Nat → Nat → Bool) (fun _ _ _ _ _ _ _ _ _ _ _ _ _ _ _ => false) (fun _ J => qm_push_64_s x1 f0_on f0_trump f0_lead f0_played f0_firstWon f0_secondWon f0_steps f0_kind f0_entered k J) n
theorem qt_push_64 {post : St2 → Prop} {x1_i : Int32} {x1 : Nat} {f0_on : Nat} {f0_trump : Nat} {f0_lead : Nat} {f0_played : Nat} {f0_firstWon : Nat} {f0_secondWon : Nat} {f0_steps : Nat} {f0_kind : Nat} {f0_entered : Nat} {k : Nat → Nat → Nat → Nat → Nat → Nat → Nat → Nat → Nat → Nat → Nat → Nat → Nat → Nat → Nat → Nat → Nat → Nat → Nat → Nat → Nat → Nat → Nat → Bool} (e_x1 : x1_i = nI x1) (hk : ∀ (s0 s1 s2 s3 s4 s5 s6 s7 s8 s9 s10 s11 s12 s13 s14 s15 s16 s17 s18 s19 s20 s21 s22 : Nat), k s0 s1 s2 s3 s4 s5 s6 s7 s8 s9 s10 s11 s12 s13 s14 s15 s16 s17 s18 s19 s20 s21 s22 = true → post (nI s0, nI s1, nI s2, nI s3, nI s4, nI s5, nI s6, nI s7, nI s8, qo_ar s9, qo_ar s10, qo_ar s11, qo_ar s12, qo_ar s13, qo_ar s14, qo_ar s15, qo_ar s16, qo_ar s17, qo_ar s18, qo_ar s19, qo_ar s20, qo_aL s21, qo_ar s22)) : ∀ (n : Nat) {x2_i : Int32} {x2 : Nat} {a1 : Nat} {a2 : Nat} {a3 : Nat} {a4 : Nat} {a5 : Nat} {a6 : Nat} {a7 : Nat} {a8 : Nat} {a9 : Nat} {a10 : Nat} {a11 : Nat} {a12 : Nat} {a13 : Nat} {a14 : Nat} (e_x2 : x2_i = nI x2), qm_push_64 x1 f0_on f0_trump f0_lead f0_played f0_firstWon f0_secondWon f0_steps f0_kind f0_entered k n x2 a1 a2 a3 a4 a5 a6 a7 a8 a9 a10 a11 a12 a13 a14 = true → wX_push_64 post x1_i (nI f0_on) (nI f0_trump) (nI f0_lead) (nI f0_played) (nI f0_firstWon) (nI f0_secondWon) (nI f0_steps) (nI f0_kind) (nI f0_entered) n x2_i (qo_ar a1) (qo_ar a2) (qo_ar a3) (qo_ar a4) (qo_ar a5) (qo_ar a6) (qo_ar a7) (qo_ar a8) (qo_ar a9) (qo_ar a10) (qo_ar a11) (qo_ar a12) (qo_aL a13) (qo_ar a14) := by
  subst e_x1
  intro n
  induction n with
  | zero =>
    intros
    exact qo_no (by assumption)
  | succ n ih =>
    intro x2_i x2 a1 a2 a3 a4 a5 a6 a7 a8 a9 a10 a11 a12 a13 a14 e_x2 h
    subst e_x2
    replace h : qm_push_64_s x1 f0_on f0_trump f0_lead f0_played f0_firstWon f0_secondWon f0_steps f0_kind f0_entered k (qm_push_64 x1 f0_on f0_trump f0_lead f0_played f0_firstWon f0_secondWon f0_steps f0_kind f0_entered k n) x2 a1 a2 a3 a4 a5 a6 a7 a8 a9 a10 a11 a12 a13 a14 = true := h
    unfold qm_push_64_s at h
    refine qo_br (qo_i_le qo_k4 (qo_v x2)) h (fun h => ?_) (fun h => ?_)
    · refine qo_nm (qo_e_ad (qo_v f0_steps) qo_k1) h (fun f_12 h => ?_)
      refine qt_p_mover  (fun r_13 h => ?_) h
      refine qo_in (by decide) (qo_v r_13) h (fun hi_1 h => ?_)
      refine ⟨hi_1, ?_⟩
      refine qo_nA (qo_e_st a2 (qo_v r_13) (qo_e_an (qo_e_gt a2 (qo_v r_13)) (qo_e_xo (qo_e_sl qo_k1 (qo_v x1)) qo_km1))) h (fun a2_16 h => ?_)
      refine qo_in (by decide) (qo_v f0_played) h (fun hi_2 h => ?_)
      refine qo_nA (qo_e_st a3 (qo_v f0_played) (qo_v x1)) h (fun a3_18 h => ?_)
      refine qo_nm (qo_e_ad (qo_v f0_played) qo_k1) h (fun f_19 h => ?_)
      refine qo_br (qo_i_eq (qo_v f_19) qo_k4) h (fun h => ?_) (fun h => ?_)
      · refine qt_p_bestPlace  (fun r_21 h => ?_) h
        refine qo_nm (qo_e_an (qo_e_ad (qo_v f0_lead) (qo_v r_21)) qo_k3) h (fun x3_22 h => ?_)
        refine qo_br (qo_i_eq (qo_e_an (qo_v x3_22) qo_k1) qo_k0) h (fun h => ?_) (fun h => ?_)
        · rw [qo_fz_e] at h
          exact qt_push_187 (qo_v x3_22) (qo_e_ad (qo_v f0_firstWon) qo_k1) hk h
        · exact qt_push_187 (qo_v x3_22) (qo_v f0_firstWon) hk h
      · exact hk f0_on f0_trump f0_lead f_19 f0_firstWon f0_secondWon f_12 f0_kind f0_entered a1 a2_16 a3_18 a4 a5 a6 a7 a8 a9 a10 a11 a12 a13 a14 h
    · refine qo_in (by decide) (qo_v x2) h (fun hi_4 h => ?_)
      refine qo_in (by decide) (qo_e_ad (qo_e_mu qo_k4 (qo_v f0_steps)) (qo_v x2)) h (fun hi_5 h => ?_)
      refine qo_nA (qo_e_st a6 (qo_e_ad (qo_e_mu qo_k4 (qo_v f0_steps)) (qo_v x2)) (qo_e_gt a3 (qo_v x2))) h (fun a6_27 h => ?_)
      refine qo_nm (qo_e_ad (qo_v x2) qo_k1) h (fun x2_28 h => ?_)
      exact ih (qo_v x2_28) h
noncomputable def qm_p_push (f0_on f0_trump f0_lead f0_played f0_firstWon f0_secondWon f0_steps f0_kind f0_entered a1 a2 a3 a4 a5 a6 a7 a8 a9 a10 a11 a12 a13 a14 p0 : Nat) (k : Nat → Nat → Nat → Nat → Nat → Nat → Nat → Nat → Nat → Nat → Nat → Nat → Nat → Nat → Nat → Nat → Nat → Nat → Nat → Nat → Nat → Nat → Nat → Bool) : Bool := (qo_nd (Nat.ble (Nat.succ f0_steps) 13) (qo_fz (qo_st a4 (qo_cl f0_steps) p0) (fun a4_2 => (qo_fz (qo_st a5 (qo_cl f0_steps) f0_lead) (fun a5_4 => (qo_fz (qo_st a7 (qo_cl f0_steps) f0_played) (fun a7_6 => (qo_fz (qo_st a8 (qo_cl f0_steps) f0_firstWon) (fun a8_8 => (qo_fz (qo_st a9 (qo_cl f0_steps) f0_secondWon) (fun a9_10 => (qm_push_64 p0 f0_on f0_trump f0_lead f0_played f0_firstWon f0_secondWon f0_steps f0_kind f0_entered k 5 0 a1 a2 a3 a4_2 a5_4 a6 a7_6 a8_8 a9_10 a10 a11 a12 a13 a14))))))))))))
theorem qt_p_push {post : St2 → Prop} {f0_on : Nat} {f0_trump : Nat} {f0_lead : Nat} {f0_played : Nat} {f0_firstWon : Nat} {f0_secondWon : Nat} {f0_steps : Nat} {f0_kind : Nat} {f0_entered : Nat} {a1 : Nat} {a2 : Nat} {a3 : Nat} {a4 : Nat} {a5 : Nat} {a6 : Nat} {a7 : Nat} {a8 : Nat} {a9 : Nat} {a10 : Nat} {a11 : Nat} {a12 : Nat} {a13 : Nat} {a14 : Nat} {p0_i : Int32} {p0 : Nat} {k : Nat → Nat → Nat → Nat → Nat → Nat → Nat → Nat → Nat → Nat → Nat → Nat → Nat → Nat → Nat → Nat → Nat → Nat → Nat → Nat → Nat → Nat → Nat → Bool} (e_p0 : p0_i = nI p0) (hk : ∀ (s0 s1 s2 s3 s4 s5 s6 s7 s8 s9 s10 s11 s12 s13 s14 s15 s16 s17 s18 s19 s20 s21 s22 : Nat), k s0 s1 s2 s3 s4 s5 s6 s7 s8 s9 s10 s11 s12 s13 s14 s15 s16 s17 s18 s19 s20 s21 s22 = true → post (nI s0, nI s1, nI s2, nI s3, nI s4, nI s5, nI s6, nI s7, nI s8, qo_ar s9, qo_ar s10, qo_ar s11, qo_ar s12, qo_ar s13, qo_ar s14, qo_ar s15, qo_ar s16, qo_ar s17, qo_ar s18, qo_ar s19, qo_ar s20, qo_aL s21, qo_ar s22)) (h : qm_p_push f0_on f0_trump f0_lead f0_played f0_firstWon f0_secondWon f0_steps f0_kind f0_entered a1 a2 a3 a4 a5 a6 a7 a8 a9 a10 a11 a12 a13 a14 p0 k = true) : wpX_push post (nI f0_on, nI f0_trump, nI f0_lead, nI f0_played, nI f0_firstWon, nI f0_secondWon, nI f0_steps, nI f0_kind, nI f0_entered, qo_ar a1, qo_ar a2, qo_ar a3, qo_ar a4, qo_ar a5, qo_ar a6, qo_ar a7, qo_ar a8, qo_ar a9, qo_ar a10, qo_ar a11, qo_ar a12, qo_aL a13, qo_ar a14) p0_i := by
  subst e_p0
  unfold qm_p_push at h
  unfold wpX_push
  refine qo_in (by decide) (qo_v f0_steps) h (fun hi_1 h => ?_)
  refine qo_nA (qo_e_st a4 (qo_v f0_steps) (qo_v p0)) h (fun a4_2 h => ?_)
  refine ⟨hi_1, ?_⟩
  refine qo_nA (qo_e_st a5 (qo_v f0_steps) (qo_v f0_lead)) h (fun a5_4 h => ?_)
  refine ⟨hi_1, ?_⟩
  refine qo_nA (qo_e_st a7 (qo_v f0_steps) (qo_v f0_played)) h (fun a7_6 h => ?_)
  refine ⟨hi_1, ?_⟩
  refine qo_nA (qo_e_st a8 (qo_v f0_steps) (qo_v f0_firstWon)) h (fun a8_8 h => ?_)
  refine ⟨hi_1, ?_⟩
  refine qo_nA (qo_e_st a9 (qo_v f0_steps) (qo_v f0_secondWon)) h (fun a9_10 h => ?_)
  exact ⟨5, qt_push_64 (qo_v p0) hk _ qo_k0 h⟩
end
section
noncomputable def qm_search_177 (x3 x4 f0_on f0_trump f0_lead f0_played f0_firstWon f0_secondWon f0_steps f0_kind f0_entered am241 am242 am243 am244 am245 am246 am247 am248 am249 am2410 am2411 am2412 am2413 am2414 : Nat) (J30 : Nat → Nat → Nat → Nat → Nat → Nat → Nat → Nat → Nat → Nat → Nat → Nat → Nat → Nat → Nat → Nat → Nat → Nat → Nat → Nat → Nat → Nat → Nat → Nat → Nat → Bool) : Bool := (qo_nd (Nat.ble (Nat.succ x3) 14) (qo_fz (qo_ad (qo_gt am2411 (qo_cl x3)) (qo_gt am2412 (qo_cl x3))) (fun x5_114 => (qo_fz (qo_ad x3 4294967295) (fun x3_115 => (qo_if (qo_lt x3_115 0) (qo_fz (qo_ad x4 1) (fun x4_117 => (J30 x3_115 x4_117 f0_on f0_trump f0_lead f0_played f0_firstWon f0_secondWon f0_steps f0_kind f0_entered am241 am242 am243 am244 am245 am246 am247 am248 am249 am2410 am2411 am2412 am2413 am2414))) (qm_p_pop f0_on f0_trump f0_steps f0_kind f0_entered am241 am242 am243 am244 am245 am246 am247 am248 am249 am2410 am2411 am2412 am2413 am2414 (fun r_118 f0_on_119 f0_trump_120 f0_lead_121 f0_played_122 f0_firstWon_123 f0_secondWon_124 f0_steps_125 f0_kind_126 f0_entered_127 am2001_130 am2002_133 am2003_136 am2004_139 am2005_142 am2006_145 am2007_148 am2008_151 am2009_154 am20010_157 am20011_160 am20012_163 am20013_166 am20014_169 => (qo_nd (Nat.ble (Nat.succ x3_115) 14) (qo_fz (qo_su x5_114 (qo_gt am20012_163 (qo_cl x3_115))) (fun y_3 => (qm_p_count f0_on_119 f0_trump_120 f0_lead_121 f0_played_122 f0_firstWon_123 f0_secondWon_124 f0_steps_125 f0_kind_126 f0_entered_127 am2001_130 am2002_133 am2003_136 am2004_139 am2005_142 am2006_145 am2007_148 am2008_151 am2009_154 am20010_157 am20011_160 am20012_163 am20013_166 am20014_169 x3_115 y_3 (fun f0_on_172 f0_trump_173 f0_lead_174 f0_played_175 f0_firstWon_176 f0_secondWon_177 f0_steps_178 f0_kind_179 f0_entered_180 am2151_183 am2152_186 am2153_189 am2154_192 am2155_195 am2156_198 am2157_201 am2158_204 am2159_207 am21510_210 am21511_213 am21512_216 am21513_219 am21514_222 => (qo_fz (qo_ad x4 1) (fun x4_223 => (J30 x3_115 x4_223 f0_on_172 f0_trump_173 f0_lead_174 f0_played_175 f0_firstWon_176 f0_secondWon_177 f0_steps_178 f0_kind_179 f0_entered_180 am2151_183 am2152_186 am2153_189 am2154_192 am2155_195 am2156_198 am2157_201 am2158_204 am2159_207 am21510_210 am21511_213 am21512_216 am21513_219 am21514_222))))))))))))))))
theorem qt_search_177 {post : Int32 → St2 → Prop} {J30 : Int32 → Int32 → Int32 → Int32 → Int32 → Int32 → Int32 → Int32 → Int32 → Int32 → Int32 → ( Nat → Int32 ) → ( Nat → Int32 ) → ( Nat → Int32 ) → ( Nat → Int32 ) → ( Nat → Int32 ) → ( Nat → Int32 ) → ( Nat → Int32 ) → ( Nat → Int32 ) → ( Nat → Int32 ) → ( Nat → Int32 ) → ( Nat → Int32 ) → ( Nat → Int32 ) → ( Nat → Int64 ) → ( Nat → Int32 ) → Prop} {x3_i : Int32} {x3 : Nat} {x4_i : Int32} {x4 : Nat} {f0_on : Nat} {f0_trump : Nat} {f0_lead : Nat} {f0_played : Nat} {f0_firstWon : Nat} {f0_secondWon : Nat} {f0_steps : Nat} {f0_kind : Nat} {f0_entered : Nat} {am241 : Nat} {am242 : Nat} {am243 : Nat} {am244 : Nat} {am245 : Nat} {am246 : Nat} {am247 : Nat} {am248 : Nat} {am249 : Nat} {am2410 : Nat} {am2411 : Nat} {am2412 : Nat} {am2413 : Nat} {am2414 : Nat} {J30' : Nat → Nat → Nat → Nat → Nat → Nat → Nat → Nat → Nat → Nat → Nat → Nat → Nat → Nat → Nat → Nat → Nat → Nat → Nat → Nat → Nat → Nat → Nat → Nat → Nat → Bool} (e_x3 : x3_i = nI x3) (e_x4 : x4_i = nI x4) (hJ30 : ∀ (w0 w1 w2 w3 w4 w5 w6 w7 w8 w9 w10 w11 w12 w13 w14 w15 w16 w17 w18 w19 w20 w21 w22 w23 w24 : Nat) , J30' w0 w1 w2 w3 w4 w5 w6 w7 w8 w9 w10 w11 w12 w13 w14 w15 w16 w17 w18 w19 w20 w21 w22 w23 w24 = true → J30 (nI w0) (nI w1) (nI w2) (nI w3) (nI w4) (nI w5) (nI w6) (nI w7) (nI w8) (nI w9) (nI w10) (qo_ar w11) (qo_ar w12) (qo_ar w13) (qo_ar w14) (qo_ar w15) (qo_ar w16) (qo_ar w17) (qo_ar w18) (qo_ar w19) (qo_ar w20) (qo_ar w21) (qo_ar w22) (qo_aL w23) (qo_ar w24)) (h : qm_search_177 x3 x4 f0_on f0_trump f0_lead f0_played f0_firstWon f0_secondWon f0_steps f0_kind f0_entered am241 am242 am243 am244 am245 am246 am247 am248 am249 am2410 am2411 am2412 am2413 am2414 J30' = true) : wX_search_177 post J30 x3_i x4_i (nI f0_on) (nI f0_trump) (nI f0_lead) (nI f0_played) (nI f0_firstWon) (nI f0_secondWon) (nI f0_steps) (nI f0_kind) (nI f0_entered) (qo_ar am241) (qo_ar am242) (qo_ar am243) (qo_ar am244) (qo_ar am245) (qo_ar am246) (qo_ar am247) (qo_ar am248) (qo_ar am249) (qo_ar am2410) (qo_ar am2411) (qo_ar am2412) (qo_aL am2413) (qo_ar am2414) := by
  subst e_x3
  subst e_x4
  unfold qm_search_177 at h
  unfold wX_search_177
  refine qo_in (by decide) (qo_v x3) h (fun hi_1 h => ?_)
  refine ⟨hi_1, ?_⟩
  refine qo_nm (qo_e_ad (qo_e_gt am2411 (qo_v x3)) (qo_e_gt am2412 (qo_v x3))) h (fun x5_114 h => ?_)
  refine qo_nm (qo_e_ad (qo_v x3) qo_km1) h (fun x3_115 h => ?_)
  refine qo_br (qo_i_lt (qo_v x3_115) qo_k0) h (fun h => ?_) (fun h => ?_)
  · refine qo_nm (qo_e_ad (qo_v x4) qo_k1) h (fun x4_117 h => ?_)
    exact hJ30 x3_115 x4_117 f0_on f0_trump f0_lead f0_played f0_firstWon f0_secondWon f0_steps f0_kind f0_entered am241 am242 am243 am244 am245 am246 am247 am248 am249 am2410 am2411 am2412 am2413 am2414 h
  · refine qt_p_pop  (fun r_118 f0_on_119 f0_trump_120 f0_lead_121 f0_played_122 f0_firstWon_123 f0_secondWon_124 f0_steps_125 f0_kind_126 f0_entered_127 am2001_130 am2002_133 am2003_136 am2004_139 am2005_142 am2006_145 am2007_148 am2008_151 am2009_154 am20010_157 am20011_160 am20012_163 am20013_166 am20014_169 h => ?_) h
    refine qo_in (by decide) (qo_v x3_115) h (fun hi_2 h => ?_)
    rw [qo_fz_e] at h
    refine qt_p_count (qo_v x3_115) (qo_e_su (qo_v x5_114) (qo_e_gt am20012_163 (qo_v x3_115))) (fun f0_on_172 f0_trump_173 f0_lead_174 f0_played_175 f0_firstWon_176 f0_secondWon_177 f0_steps_178 f0_kind_179 f0_entered_180 am2151_183 am2152_186 am2153_189 am2154_192 am2155_195 am2156_198 am2157_201 am2158_204 am2159_207 am21510_210 am21511_213 am21512_216 am21513_219 am21514_222 h => ?_) h
    refine qo_nm (qo_e_ad (qo_v x4) qo_k1) h (fun x4_223 h => ?_)
    exact hJ30 x3_115 x4_223 f0_on_172 f0_trump_173 f0_lead_174 f0_played_175 f0_firstWon_176 f0_secondWon_177 f0_steps_178 f0_kind_179 f0_entered_180 am2151_183 am2152_186 am2153_189 am2154_192 am2155_195 am2156_198 am2157_201 am2158_204 am2159_207 am21510_210 am21511_213 am21512_216 am21513_219 am21514_222 h
noncomputable def qm_search_30_s (k : Nat → Nat → Nat → Nat → Nat → Nat → Nat → Nat → Nat → Nat → Nat → Nat → Nat → Nat → Nat → Nat → Nat → Nat → Nat → Nat → Nat → Nat → Nat → Nat → Bool) (J : Nat → Nat → Nat → Nat → Nat → Nat → Nat → Nat → Nat → Nat → Nat → Nat → Nat → Nat → Nat → Nat → Nat → Nat → Nat → Nat → Nat → Nat → Nat → Nat → Nat → Bool) (x3 x4 f0_on f0_trump f0_lead f0_played f0_firstWon f0_secondWon f0_steps f0_kind f0_entered am241 am242 am243 am244 am245 am246 am247 am248 am249 am2410 am2411 am2412 am2413 am2414 : Nat) : Bool := (qo_if (qo_le 200000 x4) (qo_fz (qo_gt am2411 0) (fun rr_1 => k rr_1 f0_on f0_trump f0_lead f0_played f0_firstWon f0_secondWon f0_steps f0_kind f0_entered am241 am242 am243 am244 am245 am246 am247 am248 am249 am2410 am2411 am2412 am2413 am2414)) (qo_if (qo_lt x3 0) (qo_fz (qo_gt am2411 0) (fun rr_2 => k rr_2 f0_on f0_trump f0_lead f0_played f0_firstWon f0_secondWon f0_steps f0_kind f0_entered am241 am242 am243 am244 am245 am246 am247 am248 am249 am2410 am2411 am2412 am2413 am2414)) (qo_nd (Nat.ble (Nat.succ x3) 14) (qo_if (qo_eq (qo_gt am2410 (qo_cl x3)) 0) (qo_if (qo_eq f0_played 0) (qm_p_keyNow f0_lead am242 (fun r_224 => (qo_fz (qo_gt am2411 (qo_cl x3)) (fun y_4 => (qm_p_remember f0_on f0_trump f0_lead f0_played f0_firstWon f0_secondWon f0_steps f0_kind f0_entered am241 am242 am243 am244 am245 am246 am247 am248 am249 am2410 am2411 am2412 am2413 am2414 r_224 y_4 (fun f0_on_227 f0_trump_228 f0_lead_229 f0_played_230 f0_firstWon_231 f0_secondWon_232 f0_steps_233 f0_kind_234 f0_entered_235 am1741_238 am1742_241 am1743_244 am1744_247 am1745_250 am1746_253 am1747_256 am1748_259 am1749_262 am17410_265 am17411_268 am17412_271 am17413_274 am17414_277 => (qm_search_177 x3 x4 f0_on_227 f0_trump_228 f0_lead_229 f0_played_230 f0_firstWon_231 f0_secondWon_232 f0_steps_233 f0_kind_234 f0_entered_235 am1741_238 am1742_241 am1743_244 am1744_247 am1745_250 am1746_253 am1747_256 am1748_259 am1749_262 am17410_265 am17411_268 am17412_271 am17413_274 am17414_277 J))))))) (qm_search_177 x3 x4 f0_on f0_trump f0_lead f0_played f0_firstWon f0_secondWon f0_steps f0_kind f0_entered am241 am242 am243 am244 am245 am246 am247 am248 am249 am2410 am2411 am2412 am2413 am2414 J)) (qo_fz (Nat.land (qo_gt am2410 (qo_cl x3)) (qo_ng (qo_gt am2410 (qo_cl x3)))) (fun x5_280 => (qo_fz (qo_st am2410 (qo_cl x3) (Nat.land (qo_gt am2410 (qo_cl x3)) (Nat.xor x5_280 4294967295))) (fun am2410_283 => (qo_fz (qo_su x5_280 1) (fun y_5 => (qm_p_sizeOf y_5 (fun r_284 => (qm_p_push f0_on f0_trump f0_lead f0_played f0_firstWon f0_secondWon f0_steps f0_kind f0_entered am241 am242 am243 am244 am245 am246 am247 am248 am249 am2410_283 am2411 am2412 am2413 am2414 r_284 (fun f0_on_286 f0_trump_287 f0_lead_288 f0_played_289 f0_firstWon_290 f0_secondWon_291 f0_steps_292 f0_kind_293 f0_entered_294 am961_297 am962_300 am963_303 am964_306 am965_309 am966_312 am967_315 am968_318 am969_321 am9610_324 am9611_327 am9612_330 am9613_333 am9614_336 => (qm_p_atOnce f0_lead_288 f0_played_289 f0_kind_293 am962_300 am9613_333 am9614_336 (fun r_337 => (qo_if (qo_lt r_337 0) (qo_fz (qo_ad x3 1) (fun x3_339 => (qm_p_begin f0_on_286 f0_trump_287 f0_lead_288 f0_played_289 f0_firstWon_290 f0_secondWon_291 f0_steps_292 f0_kind_293 f0_entered_294 am961_297 am962_300 am963_303 am964_306 am965_309 am966_312 am967_315 am968_318 am969_321 am9610_324 am9611_327 am9612_330 am9613_333 am9614_336 x3_339 (fun f0_on_341 f0_trump_342 f0_lead_343 f0_played_344 f0_firstWon_345 f0_secondWon_346 f0_steps_347 f0_kind_348 f0_entered_349 am1461_352 am1462_355 am1463_358 am1464_361 am1465_364 am1466_367 am1467_370 am1468_373 am1469_376 am14610_379 am14611_382 am14612_385 am14613_388 am14614_391 => (qo_fz (qo_ad x4 1) (fun x4_392 => (J x3_339 x4_392 f0_on_341 f0_trump_342 f0_lead_343 f0_played_344 f0_firstWon_345 f0_secondWon_346 f0_steps_347 f0_kind_348 f0_entered_349 am1461_352 am1462_355 am1463_358 am1464_361 am1465_364 am1466_367 am1467_370 am1468_373 am1469_376 am14610_379 am14611_382 am14612_385 am14613_388 am14614_391))))))) (qm_p_gained f0_firstWon_290 f0_kind_293 (fun r_393 => (qo_fz (qo_su (qo_ad r_337 r_393) (qo_gt am9612_330 (qo_cl x3))) (fun x8_395 => (qm_p_pop f0_on_286 f0_trump_287 f0_steps_292 f0_kind_293 f0_entered_294 am961_297 am962_300 am963_303 am964_306 am965_309 am966_312 am967_315 am968_318 am969_321 am9610_324 am9611_327 am9612_330 am9613_333 am9614_336 (fun r_396 f0_on_397 f0_trump_398 f0_lead_399 f0_played_400 f0_firstWon_401 f0_secondWon_402 f0_steps_403 f0_kind_404 f0_entered_405 am1271_408 am1272_411 am1273_414 am1274_417 am1275_420 am1276_423 am1277_426 am1278_429 am1279_432 am12710_435 am12711_438 am12712_441 am12713_444 am12714_447 => (qm_p_count f0_on_397 f0_trump_398 f0_lead_399 f0_played_400 f0_firstWon_401 f0_secondWon_402 f0_steps_403 f0_kind_404 f0_entered_405 am1271_408 am1272_411 am1273_414 am1274_417 am1275_420 am1276_423 am1277_426 am1278_429 am1279_432 am12710_435 am12711_438 am12712_441 am12713_444 am12714_447 x3 x8_395 (fun f0_on_449 f0_trump_450 f0_lead_451 f0_played_452 f0_firstWon_453 f0_secondWon_454 f0_steps_455 f0_kind_456 f0_entered_457 am1351_460 am1352_463 am1353_466 am1354_469 am1355_472 am1356_475 am1357_478 am1358_481 am1359_484 am13510_487 am13511_490 am13512_493 am13513_496 am13514_499 => (qo_fz (qo_ad x4 1) (fun x4_500 => (J x3 x4_500 f0_on_449 f0_trump_450 f0_lead_451 f0_played_452 f0_firstWon_453 f0_secondWon_454 f0_steps_455 f0_kind_456 f0_entered_457 am1351_460 am1352_463 am1353_466 am1354_469 am1355_472 am1356_475 am1357_478 am1358_481 am1359_484 am13510_487 am13511_490 am13512_493 am13513_496 am13514_499))))))))))))))))))))))))))))
noncomputable def qm_search_30 (k : Nat → Nat → Nat → Nat → Nat → Nat → Nat → Nat → Nat → Nat → Nat → Nat → Nat → Nat → Nat → Nat → Nat → Nat → Nat → Nat → Nat → Nat → Nat → Nat → Bool) (n : Nat) : Nat → Nat → Nat → Nat → Nat → Nat → Nat → Nat → Nat → Nat → Nat → Nat → Nat → Nat → Nat → Nat → Nat → Nat → Nat → Nat → Nat → Nat → Nat → Nat → Nat → Bool := Nat.rec (motive := fun _ => Nat → Nat → Nat → Nat → Nat → Nat → Nat → Nat → Nat → Nat → Nat → Nat → Nat → Nat → Nat → Nat → Nat → Nat → Nat → Nat → Nat → Nat → Nat → Nat → Nat → Bool) (fun _ _ _ _ _ _ _ _ _ _ _ _ _ _ _ _ _ _ _ _ _ _ _ _ _ => false) (fun _ J => qm_search_30_s  k J) n
theorem qt_search_30 {post : Int32 → St2 → Prop} {k : Nat → Nat → Nat → Nat → Nat → Nat → Nat → Nat → Nat → Nat → Nat → Nat → Nat → Nat → Nat → Nat → Nat → Nat → Nat → Nat → Nat → Nat → Nat → Nat → Bool} (hk : ∀ (r s0 s1 s2 s3 s4 s5 s6 s7 s8 s9 s10 s11 s12 s13 s14 s15 s16 s17 s18 s19 s20 s21 s22 : Nat), k r s0 s1 s2 s3 s4 s5 s6 s7 s8 s9 s10 s11 s12 s13 s14 s15 s16 s17 s18 s19 s20 s21 s22 = true → post (nI r) (nI s0, nI s1, nI s2, nI s3, nI s4, nI s5, nI s6, nI s7, nI s8, qo_ar s9, qo_ar s10, qo_ar s11, qo_ar s12, qo_ar s13, qo_ar s14, qo_ar s15, qo_ar s16, qo_ar s17, qo_ar s18, qo_ar s19, qo_ar s20, qo_aL s21, qo_ar s22)) : ∀ (n : Nat) {x3_i : Int32} {x3 : Nat} {x4_i : Int32} {x4 : Nat} {f0_on : Nat} {f0_trump : Nat} {f0_lead : Nat} {f0_played : Nat} {f0_firstWon : Nat} {f0_secondWon : Nat} {f0_steps : Nat} {f0_kind : Nat} {f0_entered : Nat} {am241 : Nat} {am242 : Nat} {am243 : Nat} {am244 : Nat} {am245 : Nat} {am246 : Nat} {am247 : Nat} {am248 : Nat} {am249 : Nat} {am2410 : Nat} {am2411 : Nat} {am2412 : Nat} {am2413 : Nat} {am2414 : Nat} (e_x3 : x3_i = nI x3) (e_x4 : x4_i = nI x4), qm_search_30  k n x3 x4 f0_on f0_trump f0_lead f0_played f0_firstWon f0_secondWon f0_steps f0_kind f0_entered am241 am242 am243 am244 am245 am246 am247 am248 am249 am2410 am2411 am2412 am2413 am2414 = true → wX_search_30 post n x3_i x4_i (nI f0_on) (nI f0_trump) (nI f0_lead) (nI f0_played) (nI f0_firstWon) (nI f0_secondWon) (nI f0_steps) (nI f0_kind) (nI f0_entered) (qo_ar am241) (qo_ar am242) (qo_ar am243) (qo_ar am244) (qo_ar am245) (qo_ar am246) (qo_ar am247) (qo_ar am248) (qo_ar am249) (qo_ar am2410) (qo_ar am2411) (qo_ar am2412) (qo_aL am2413) (qo_ar am2414) := by
  intro n
  induction n with
  | zero =>
    intros
    exact qo_no (by assumption)
  | succ n ih =>
    intro x3_i x3 x4_i x4 f0_on f0_trump f0_lead f0_played f0_firstWon f0_secondWon f0_steps f0_kind f0_entered am241 am242 am243 am244 am245 am246 am247 am248 am249 am2410 am2411 am2412 am2413 am2414 e_x3 e_x4 h
    subst e_x3
    subst e_x4
    replace h : qm_search_30_s  k (qm_search_30  k n) x3 x4 f0_on f0_trump f0_lead f0_played f0_firstWon f0_secondWon f0_steps f0_kind f0_entered am241 am242 am243 am244 am245 am246 am247 am248 am249 am2410 am2411 am2412 am2413 am2414 = true := h
    unfold qm_search_30_s at h
    refine qo_br (qo_i_le qo_k200000 (qo_v x4)) h (fun h => ?_) (fun h => ?_)
    · exact qo_pr (qo_e_g0 am2411 0) h (fun rr_1 h => hk rr_1 f0_on f0_trump f0_lead f0_played f0_firstWon f0_secondWon f0_steps f0_kind f0_entered am241 am242 am243 am244 am245 am246 am247 am248 am249 am2410 am2411 am2412 am2413 am2414 h)
    · refine qo_br (qo_i_lt (qo_v x3) qo_k0) h (fun h => ?_) (fun h => ?_)
      · exact qo_pr (qo_e_g0 am2411 0) h (fun rr_2 h => hk rr_2 f0_on f0_trump f0_lead f0_played f0_firstWon f0_secondWon f0_steps f0_kind f0_entered am241 am242 am243 am244 am245 am246 am247 am248 am249 am2410 am2411 am2412 am2413 am2414 h)
      · refine qo_in (by decide) (qo_v x3) h (fun hi_3 h => ?_)
        refine qo_br (qo_i_eq (qo_e_gt am2410 (qo_v x3)) qo_k0) h (fun h => ?_) (fun h => ?_)
        · refine qo_br (qo_i_eq (qo_v f0_played) qo_k0) h (fun h => ?_) (fun h => ?_)
          · refine qt_p_keyNow  (fun r_224 h => ?_) h
            refine ⟨hi_3, ?_⟩
            rw [qo_fz_e] at h
            refine qt_p_remember (qo_vL r_224) (qo_e_gt am2411 (qo_v x3)) (fun f0_on_227 f0_trump_228 f0_lead_229 f0_played_230 f0_firstWon_231 f0_secondWon_232 f0_steps_233 f0_kind_234 f0_entered_235 am1741_238 am1742_241 am1743_244 am1744_247 am1745_250 am1746_253 am1747_256 am1748_259 am1749_262 am17410_265 am17411_268 am17412_271 am17413_274 am17414_277 h => ?_) h
            exact qt_search_177 (qo_v x3) (qo_v x4) (fun w0 w1 w2 w3 w4 w5 w6 w7 w8 w9 w10 w11 w12 w13 w14 w15 w16 w17 w18 w19 w20 w21 w22 w23 w24 h => ih (qo_v w0) (qo_v w1)                        h) h
          · exact qt_search_177 (qo_v x3) (qo_v x4) (fun w0 w1 w2 w3 w4 w5 w6 w7 w8 w9 w10 w11 w12 w13 w14 w15 w16 w17 w18 w19 w20 w21 w22 w23 w24 h => ih (qo_v w0) (qo_v w1)                        h) h
        · refine ⟨hi_3, ?_⟩
          refine ⟨hi_3, ?_⟩
          refine qo_nm (qo_e_an (qo_e_gt am2410 (qo_v x3)) (qo_e_ng (qo_e_gt am2410 (qo_v x3)))) h (fun x5_280 h => ?_)
          refine ⟨hi_3, ?_⟩
          refine ⟨hi_3, ?_⟩
          refine qo_nA (qo_e_st am2410 (qo_v x3) (qo_e_an (qo_e_gt am2410 (qo_v x3)) (qo_e_xo (qo_v x5_280) qo_km1))) h (fun am2410_283 h => ?_)
          rw [qo_fz_e] at h
          refine qt_p_sizeOf (qo_e_su (qo_v x5_280) qo_k1) (fun r_284 h => ?_) h
          refine qt_p_push (qo_v r_284) (fun f0_on_286 f0_trump_287 f0_lead_288 f0_played_289 f0_firstWon_290 f0_secondWon_291 f0_steps_292 f0_kind_293 f0_entered_294 am961_297 am962_300 am963_303 am964_306 am965_309 am966_312 am967_315 am968_318 am969_321 am9610_324 am9611_327 am9612_330 am9613_333 am9614_336 h => ?_) h
          refine qt_p_atOnce  (fun r_337 h => ?_) h
          refine qo_br (qo_i_lt (qo_v r_337) qo_k0) h (fun h => ?_) (fun h => ?_)
          · refine qo_nm (qo_e_ad (qo_v x3) qo_k1) h (fun x3_339 h => ?_)
            refine qt_p_begin (qo_v x3_339) (fun f0_on_341 f0_trump_342 f0_lead_343 f0_played_344 f0_firstWon_345 f0_secondWon_346 f0_steps_347 f0_kind_348 f0_entered_349 am1461_352 am1462_355 am1463_358 am1464_361 am1465_364 am1466_367 am1467_370 am1468_373 am1469_376 am14610_379 am14611_382 am14612_385 am14613_388 am14614_391 h => ?_) h
            refine qo_nm (qo_e_ad (qo_v x4) qo_k1) h (fun x4_392 h => ?_)
            exact ih (qo_v x3_339) (qo_v x4_392) h
          · refine qt_p_gained  (fun r_393 h => ?_) h
            refine ⟨hi_3, ?_⟩
            refine qo_nm (qo_e_su (qo_e_ad (qo_v r_337) (qo_v r_393)) (qo_e_gt am9612_330 (qo_v x3))) h (fun x8_395 h => ?_)
            refine qt_p_pop  (fun r_396 f0_on_397 f0_trump_398 f0_lead_399 f0_played_400 f0_firstWon_401 f0_secondWon_402 f0_steps_403 f0_kind_404 f0_entered_405 am1271_408 am1272_411 am1273_414 am1274_417 am1275_420 am1276_423 am1277_426 am1278_429 am1279_432 am12710_435 am12711_438 am12712_441 am12713_444 am12714_447 h => ?_) h
            refine qt_p_count (qo_v x3) (qo_v x8_395) (fun f0_on_449 f0_trump_450 f0_lead_451 f0_played_452 f0_firstWon_453 f0_secondWon_454 f0_steps_455 f0_kind_456 f0_entered_457 am1351_460 am1352_463 am1353_466 am1354_469 am1355_472 am1356_475 am1357_478 am1358_481 am1359_484 am13510_487 am13511_490 am13512_493 am13513_496 am13514_499 h => ?_) h
            refine qo_nm (qo_e_ad (qo_v x4) qo_k1) h (fun x4_500 h => ?_)
            exact ih (qo_v x3) (qo_v x4_500) h
noncomputable def qm_p_search (f0_on f0_trump f0_lead f0_played f0_firstWon f0_secondWon f0_steps a1 a2 a3 a4 a5 a6 a7 a8 a9 a10 a11 a12 a13 a14 p0 : Nat) (k : Nat → Nat → Nat → Nat → Nat → Nat → Nat → Nat → Nat → Nat → Nat → Nat → Nat → Nat → Nat → Nat → Nat → Nat → Nat → Nat → Nat → Nat → Nat → Nat → Bool) : Bool := (qm_p_clearTable f0_on f0_trump f0_lead f0_played f0_firstWon f0_secondWon f0_steps p0 a1 a2 a3 a4 a5 a6 a7 a8 a9 a10 a11 a12 a13 a14 (fun f0_on_2 f0_trump_3 f0_lead_4 f0_played_5 f0_firstWon_6 f0_secondWon_7 f0_steps_8 f0_kind_9 f0_entered_10 am61_13 am62_16 am63_19 am64_22 am65_25 am66_28 am67_31 am68_34 am69_37 am610_40 am611_43 am612_46 am613_49 am614_52 => (qm_p_atOnce f0_lead_4 f0_played_5 f0_kind_9 am62_16 am613_49 am614_52 (fun r_53 => (qo_if (qo_lt r_53 0) (qm_p_begin f0_on_2 f0_trump_3 f0_lead_4 f0_played_5 f0_firstWon_6 f0_secondWon_7 f0_steps_8 f0_kind_9 f0_entered_10 am61_13 am62_16 am63_19 am64_22 am65_25 am66_28 am67_31 am68_34 am69_37 am610_40 am611_43 am612_46 am613_49 am614_52 0 (fun f0_on_56 f0_trump_57 f0_lead_58 f0_played_59 f0_firstWon_60 f0_secondWon_61 f0_steps_62 f0_kind_63 f0_entered_64 am241_67 am242_70 am243_73 am244_76 am245_79 am246_82 am247_85 am248_88 am249_91 am2410_94 am2411_97 am2412_100 am2413_103 am2414_106 => (qm_search_30 k 120 0 0 f0_on_56 f0_trump_57 f0_lead_58 f0_played_59 f0_firstWon_60 f0_secondWon_61 f0_steps_62 f0_kind_63 f0_entered_64 am241_67 am242_70 am243_73 am244_76 am245_79 am246_82 am247_85 am248_88 am249_91 am2410_94 am2411_97 am2412_100 am2413_103 am2414_106))) (k r_53 f0_on_2 f0_trump_3 f0_lead_4 f0_played_5 f0_firstWon_6 f0_secondWon_7 f0_steps_8 f0_kind_9 f0_entered_10 am61_13 am62_16 am63_19 am64_22 am65_25 am66_28 am67_31 am68_34 am69_37 am610_40 am611_43 am612_46 am613_49 am614_52))))))
theorem qt_p_search {post : Int32 → St2 → Prop} {f0_on : Nat} {f0_trump : Nat} {f0_lead : Nat} {f0_played : Nat} {f0_firstWon : Nat} {f0_secondWon : Nat} {f0_steps : Nat} {f0_kind : Int32} {f0_entered : Int32} {a1 : Nat} {a2 : Nat} {a3 : Nat} {a4 : Nat} {a5 : Nat} {a6 : Nat} {a7 : Nat} {a8 : Nat} {a9 : Nat} {a10 : Nat} {a11 : Nat} {a12 : Nat} {a13 : Nat} {a14 : Nat} {p0_i : Int32} {p0 : Nat} {k : Nat → Nat → Nat → Nat → Nat → Nat → Nat → Nat → Nat → Nat → Nat → Nat → Nat → Nat → Nat → Nat → Nat → Nat → Nat → Nat → Nat → Nat → Nat → Nat → Bool} (e_p0 : p0_i = nI p0) (hk : ∀ (r s0 s1 s2 s3 s4 s5 s6 s7 s8 s9 s10 s11 s12 s13 s14 s15 s16 s17 s18 s19 s20 s21 s22 : Nat), k r s0 s1 s2 s3 s4 s5 s6 s7 s8 s9 s10 s11 s12 s13 s14 s15 s16 s17 s18 s19 s20 s21 s22 = true → post (nI r) (nI s0, nI s1, nI s2, nI s3, nI s4, nI s5, nI s6, nI s7, nI s8, qo_ar s9, qo_ar s10, qo_ar s11, qo_ar s12, qo_ar s13, qo_ar s14, qo_ar s15, qo_ar s16, qo_ar s17, qo_ar s18, qo_ar s19, qo_ar s20, qo_aL s21, qo_ar s22)) (h : qm_p_search f0_on f0_trump f0_lead f0_played f0_firstWon f0_secondWon f0_steps a1 a2 a3 a4 a5 a6 a7 a8 a9 a10 a11 a12 a13 a14 p0 k = true) : wpX_search post (nI f0_on, nI f0_trump, nI f0_lead, nI f0_played, nI f0_firstWon, nI f0_secondWon, nI f0_steps, f0_kind, f0_entered, qo_ar a1, qo_ar a2, qo_ar a3, qo_ar a4, qo_ar a5, qo_ar a6, qo_ar a7, qo_ar a8, qo_ar a9, qo_ar a10, qo_ar a11, qo_ar a12, qo_aL a13, qo_ar a14) p0_i := by
  subst e_p0
  unfold qm_p_search at h
  unfold wpX_search
  refine qt_p_clearTable  (fun f0_on_2 f0_trump_3 f0_lead_4 f0_played_5 f0_firstWon_6 f0_secondWon_7 f0_steps_8 f0_kind_9 f0_entered_10 am61_13 am62_16 am63_19 am64_22 am65_25 am66_28 am67_31 am68_34 am69_37 am610_40 am611_43 am612_46 am613_49 am614_52 h => ?_) h
  refine qt_p_atOnce  (fun r_53 h => ?_) h
  refine qo_br (qo_i_lt (qo_v r_53) qo_k0) h (fun h => ?_) (fun h => ?_)
  · refine qt_p_begin qo_k0 (fun f0_on_56 f0_trump_57 f0_lead_58 f0_played_59 f0_firstWon_60 f0_secondWon_61 f0_steps_62 f0_kind_63 f0_entered_64 am241_67 am242_70 am243_73 am244_76 am245_79 am246_82 am247_85 am248_88 am249_91 am2410_94 am2411_97 am2412_100 am2413_103 am2414_106 h => ?_) h
    exact ⟨120, qt_search_30  hk _ qo_k0 qo_k0 h⟩
  · exact hk r_53 f0_on_2 f0_trump_3 f0_lead_4 f0_played_5 f0_firstWon_6 f0_secondWon_7 f0_steps_8 f0_kind_9 f0_entered_10 am61_13 am62_16 am63_19 am64_22 am65_25 am66_28 am67_31 am68_34 am69_37 am610_40 am611_43 am612_46 am613_49 am614_52 h
noncomputable def qm_p_valueNow (f0_on f0_trump f0_lead f0_played f0_firstWon f0_secondWon f0_steps a1 a2 a3 a4 a5 a6 a7 a8 a9 a10 a11 a12 a13 a14 : Nat) (k : Nat → Nat → Nat → Nat → Nat → Nat → Nat → Nat → Nat → Nat → Nat → Nat → Nat → Nat → Nat → Nat → Nat → Nat → Nat → Nat → Nat → Nat → Nat → Nat → Bool) : Bool := (qm_p_search f0_on f0_trump f0_lead f0_played f0_firstWon f0_secondWon f0_steps a1 a2 a3 a4 a5 a6 a7 a8 a9 a10 a11 a12 a13 a14 0 (fun r_1 f0_on_2 f0_trump_3 f0_lead_4 f0_played_5 f0_firstWon_6 f0_secondWon_7 f0_steps_8 f0_kind_9 f0_entered_10 am21_13 am22_16 am23_19 am24_22 am25_25 am26_28 am27_31 am28_34 am29_37 am210_40 am211_43 am212_46 am213_49 am214_52 => (qo_fz (qo_ad f0_firstWon_6 r_1) (fun rr_1 => k rr_1 f0_on_2 f0_trump_3 f0_lead_4 f0_played_5 f0_firstWon_6 f0_secondWon_7 f0_steps_8 f0_kind_9 f0_entered_10 am21_13 am22_16 am23_19 am24_22 am25_25 am26_28 am27_31 am28_34 am29_37 am210_40 am211_43 am212_46 am213_49 am214_52))))
theorem qt_p_valueNow {post : Int32 → St2 → Prop} {f0_on : Nat} {f0_trump : Nat} {f0_lead : Nat} {f0_played : Nat} {f0_firstWon : Nat} {f0_secondWon : Nat} {f0_steps : Nat} {f0_kind : Int32} {f0_entered : Int32} {a1 : Nat} {a2 : Nat} {a3 : Nat} {a4 : Nat} {a5 : Nat} {a6 : Nat} {a7 : Nat} {a8 : Nat} {a9 : Nat} {a10 : Nat} {a11 : Nat} {a12 : Nat} {a13 : Nat} {a14 : Nat} {k : Nat → Nat → Nat → Nat → Nat → Nat → Nat → Nat → Nat → Nat → Nat → Nat → Nat → Nat → Nat → Nat → Nat → Nat → Nat → Nat → Nat → Nat → Nat → Nat → Bool} (hk : ∀ (r s0 s1 s2 s3 s4 s5 s6 s7 s8 s9 s10 s11 s12 s13 s14 s15 s16 s17 s18 s19 s20 s21 s22 : Nat), k r s0 s1 s2 s3 s4 s5 s6 s7 s8 s9 s10 s11 s12 s13 s14 s15 s16 s17 s18 s19 s20 s21 s22 = true → post (nI r) (nI s0, nI s1, nI s2, nI s3, nI s4, nI s5, nI s6, nI s7, nI s8, qo_ar s9, qo_ar s10, qo_ar s11, qo_ar s12, qo_ar s13, qo_ar s14, qo_ar s15, qo_ar s16, qo_ar s17, qo_ar s18, qo_ar s19, qo_ar s20, qo_aL s21, qo_ar s22)) (h : qm_p_valueNow f0_on f0_trump f0_lead f0_played f0_firstWon f0_secondWon f0_steps a1 a2 a3 a4 a5 a6 a7 a8 a9 a10 a11 a12 a13 a14 k = true) : wpX_valueNow post (nI f0_on, nI f0_trump, nI f0_lead, nI f0_played, nI f0_firstWon, nI f0_secondWon, nI f0_steps, f0_kind, f0_entered, qo_ar a1, qo_ar a2, qo_ar a3, qo_ar a4, qo_ar a5, qo_ar a6, qo_ar a7, qo_ar a8, qo_ar a9, qo_ar a10, qo_ar a11, qo_ar a12, qo_aL a13, qo_ar a14) := by
  unfold qm_p_valueNow at h
  unfold wpX_valueNow
  refine qt_p_search qo_k0 (fun r_1 f0_on_2 f0_trump_3 f0_lead_4 f0_played_5 f0_firstWon_6 f0_secondWon_7 f0_steps_8 f0_kind_9 f0_entered_10 am21_13 am22_16 am23_19 am24_22 am25_25 am26_28 am27_31 am28_34 am29_37 am210_40 am211_43 am212_46 am213_49 am214_52 h => ?_) h
  exact qo_pr (qo_e_ad (qo_v f0_firstWon_6) (qo_v r_1)) h (fun rr_1 h => hk rr_1 f0_on_2 f0_trump_3 f0_lead_4 f0_played_5 f0_firstWon_6 f0_secondWon_7 f0_steps_8 f0_kind_9 f0_entered_10 am21_13 am22_16 am23_19 am24_22 am25_25 am26_28 am27_31 am28_34 am29_37 am210_40 am211_43 am212_46 am213_49 am214_52 h)
noncomputable def qm_p_value (f0_on f0_trump f0_lead f0_played f0_firstWon f0_secondWon f0_steps f0_kind f0_entered a1 a2 a3 a4 a5 a6 a7 a8 a9 a10 a11 a12 a13 a14 : Nat) (k : Nat → Nat → Nat → Nat → Nat → Nat → Nat → Nat → Nat → Nat → Nat → Nat → Nat → Nat → Nat → Nat → Nat → Nat → Nat → Nat → Nat → Nat → Nat → Nat → Bool) : Bool := (qo_if (qo_eq f0_on 0) (qo_fz 4294967293 (fun rr_1 => k rr_1 f0_on f0_trump f0_lead f0_played f0_firstWon f0_secondWon f0_steps f0_kind f0_entered a1 a2 a3 a4 a5 a6 a7 a8 a9 a10 a11 a12 a13 a14)) (qm_p_valueNow f0_on f0_trump f0_lead f0_played f0_firstWon f0_secondWon f0_steps a1 a2 a3 a4 a5 a6 a7 a8 a9 a10 a11 a12 a13 a14 (fun r_2 f0_on_3 f0_trump_4 f0_lead_5 f0_played_6 f0_firstWon_7 f0_secondWon_8 f0_steps_9 f0_kind_10 f0_entered_11 am81_14 am82_17 am83_20 am84_23 am85_26 am86_29 am87_32 am88_35 am89_38 am810_41 am811_44 am812_47 am813_50 am814_53 => (k r_2 f0_on_3 f0_trump_4 f0_lead_5 f0_played_6 f0_firstWon_7 f0_secondWon_8 f0_steps_9 f0_kind_10 f0_entered_11 am81_14 am82_17 am83_20 am84_23 am85_26 am86_29 am87_32 am88_35 am89_38 am810_41 am811_44 am812_47 am813_50 am814_53))))
theorem qt_p_value {post : Int32 → St2 → Prop} {f0_on : Nat} {f0_trump : Nat} {f0_lead : Nat} {f0_played : Nat} {f0_firstWon : Nat} {f0_secondWon : Nat} {f0_steps : Nat} {f0_kind : Nat} {f0_entered : Nat} {a1 : Nat} {a2 : Nat} {a3 : Nat} {a4 : Nat} {a5 : Nat} {a6 : Nat} {a7 : Nat} {a8 : Nat} {a9 : Nat} {a10 : Nat} {a11 : Nat} {a12 : Nat} {a13 : Nat} {a14 : Nat} {k : Nat → Nat → Nat → Nat → Nat → Nat → Nat → Nat → Nat → Nat → Nat → Nat → Nat → Nat → Nat → Nat → Nat → Nat → Nat → Nat → Nat → Nat → Nat → Nat → Bool} (hk : ∀ (r s0 s1 s2 s3 s4 s5 s6 s7 s8 s9 s10 s11 s12 s13 s14 s15 s16 s17 s18 s19 s20 s21 s22 : Nat), k r s0 s1 s2 s3 s4 s5 s6 s7 s8 s9 s10 s11 s12 s13 s14 s15 s16 s17 s18 s19 s20 s21 s22 = true → post (nI r) (nI s0, nI s1, nI s2, nI s3, nI s4, nI s5, nI s6, nI s7, nI s8, qo_ar s9, qo_ar s10, qo_ar s11, qo_ar s12, qo_ar s13, qo_ar s14, qo_ar s15, qo_ar s16, qo_ar s17, qo_ar s18, qo_ar s19, qo_ar s20, qo_aL s21, qo_ar s22)) (h : qm_p_value f0_on f0_trump f0_lead f0_played f0_firstWon f0_secondWon f0_steps f0_kind f0_entered a1 a2 a3 a4 a5 a6 a7 a8 a9 a10 a11 a12 a13 a14 k = true) : wpX_value post (nI f0_on, nI f0_trump, nI f0_lead, nI f0_played, nI f0_firstWon, nI f0_secondWon, nI f0_steps, nI f0_kind, nI f0_entered, qo_ar a1, qo_ar a2, qo_ar a3, qo_ar a4, qo_ar a5, qo_ar a6, qo_ar a7, qo_ar a8, qo_ar a9, qo_ar a10, qo_ar a11, qo_ar a12, qo_aL a13, qo_ar a14) := by
  unfold qm_p_value at h
  unfold wpX_value
  refine qo_br (qo_i_eq (qo_v f0_on) qo_k0) h (fun h => ?_) (fun h => ?_)
  · exact qo_pr qo_km3 h (fun rr_1 h => hk rr_1 f0_on f0_trump f0_lead f0_played f0_firstWon f0_secondWon f0_steps f0_kind f0_entered a1 a2 a3 a4 a5 a6 a7 a8 a9 a10 a11 a12 a13 a14 h)
  · refine qt_p_valueNow  (fun r_2 f0_on_3 f0_trump_4 f0_lead_5 f0_played_6 f0_firstWon_7 f0_secondWon_8 f0_steps_9 f0_kind_10 f0_entered_11 am81_14 am82_17 am83_20 am84_23 am85_26 am86_29 am87_32 am88_35 am89_38 am810_41 am811_44 am812_47 am813_50 am814_53 h => ?_) h
    exact hk r_2 f0_on_3 f0_trump_4 f0_lead_5 f0_played_6 f0_firstWon_7 f0_secondWon_8 f0_steps_9 f0_kind_10 f0_entered_11 am81_14 am82_17 am83_20 am84_23 am85_26 am86_29 am87_32 am88_35 am89_38 am810_41 am811_44 am812_47 am813_50 am814_53 h
noncomputable def qm_p_mayPlay (f0_lead f0_played a2 a3 p0 : Nat) (k : Nat → Bool) : Bool := (qo_if (qo_lt p0 0) (qo_fz 0 k) (qo_if (qo_le 12 p0) (qo_fz 0 k) (qm_p_legalNow f0_lead f0_played a2 a3 (fun r_3 => (qo_if (qo_eq (Nat.land (qo_sr r_3 p0) 1) 1) (qo_fz 1 k) (qo_fz 0 k))))))
theorem qt_p_mayPlay {post : Int32 → Prop} {f0_on : Int32} {f0_trump : Int32} {f0_lead : Nat} {f0_played : Nat} {f0_firstWon : Int32} {f0_secondWon : Int32} {f0_steps : Int32} {f0_kind : Int32} {f0_entered : Int32} {a1 : Nat → Int32} {a2 : Nat} {a3 : Nat} {a4 : Nat → Int32} {a5 : Nat → Int32} {a6 : Nat → Int32} {a7 : Nat → Int32} {a8 : Nat → Int32} {a9 : Nat → Int32} {a10 : Nat → Int32} {a11 : Nat → Int32} {a12 : Nat → Int32} {a13 : Nat → Int64} {a14 : Nat → Int32} {p0_i : Int32} {p0 : Nat} {k : Nat → Bool} (e_p0 : p0_i = nI p0) (hk : ∀ r : Nat, k r = true → post (nI r)) (h : qm_p_mayPlay f0_lead f0_played a2 a3 p0 k = true) : wpX_mayPlay post (f0_on, f0_trump, nI f0_lead, nI f0_played, f0_firstWon, f0_secondWon, f0_steps, f0_kind, f0_entered, a1, qo_ar a2, qo_ar a3, a4, a5, a6, a7, a8, a9, a10, a11, a12, a13, a14) p0_i := by
  subst e_p0
  unfold qm_p_mayPlay at h
  unfold wpX_mayPlay
  refine qo_br (qo_i_lt (qo_v p0) qo_k0) h (fun h => ?_) (fun h => ?_)
  · exact qo_po qo_k0 h hk
  · refine qo_br (qo_i_le qo_k12 (qo_v p0)) h (fun h => ?_) (fun h => ?_)
    · exact qo_po qo_k0 h hk
    · refine qt_p_legalNow  (fun r_3 h => ?_) h
      refine qo_br (qo_i_eq (qo_e_an (qo_e_sr (qo_v r_3) (qo_v p0)) qo_k1) qo_k1) h (fun h => ?_) (fun h => ?_)
      · exact qo_po qo_k1 h hk
      · exact qo_po qo_k0 h hk
noncomputable def qm_p_play (f0_on f0_trump f0_lead f0_played f0_firstWon f0_secondWon f0_steps f0_kind f0_entered a1 a2 a3 a4 a5 a6 a7 a8 a9 a10 a11 a12 a13 a14 p0 : Nat) (k : Nat → Nat → Nat → Nat → Nat → Nat → Nat → Nat → Nat → Nat → Nat → Nat → Nat → Nat → Nat → Nat → Nat → Nat → Nat → Nat → Nat → Nat → Nat → Nat → Bool) : Bool := (qo_if (qo_eq f0_on 0) (qo_fz 4294967293 (fun rr_1 => k rr_1 f0_on f0_trump f0_lead f0_played f0_firstWon f0_secondWon f0_steps f0_kind f0_entered a1 a2 a3 a4 a5 a6 a7 a8 a9 a10 a11 a12 a13 a14)) (qm_p_mayPlay f0_lead f0_played a2 a3 p0 (fun r_2 => (qo_if (qo_eq r_2 0) (qo_fz 4294967292 (fun rr_2 => k rr_2 f0_on f0_trump f0_lead f0_played f0_firstWon f0_secondWon f0_steps f0_kind f0_entered a1 a2 a3 a4 a5 a6 a7 a8 a9 a10 a11 a12 a13 a14)) (qm_p_push f0_on f0_trump f0_lead f0_played f0_firstWon f0_secondWon f0_steps f0_kind f0_entered a1 a2 a3 a4 a5 a6 a7 a8 a9 a10 a11 a12 a13 a14 p0 (fun f0_on_5 f0_trump_6 f0_lead_7 f0_played_8 f0_firstWon_9 f0_secondWon_10 f0_steps_11 f0_kind_12 f0_entered_13 am231_16 am232_19 am233_22 am234_25 am235_28 am236_31 am237_34 am238_37 am239_40 am2310_43 am2311_46 am2312_49 am2313_52 am2314_55 => (qo_if (qo_eq f0_played_8 0) (qo_fz 4 (fun rr_3 => k rr_3 f0_on_5 f0_trump_6 f0_lead_7 f0_played_8 f0_firstWon_9 f0_secondWon_10 f0_steps_11 f0_kind_12 f0_entered_13 am231_16 am232_19 am233_22 am234_25 am235_28 am236_31 am237_34 am238_37 am239_40 am2310_43 am2311_46 am2312_49 am2313_52 am2314_55)) (k f0_played_8 f0_on_5 f0_trump_6 f0_lead_7 f0_played_8 f0_firstWon_9 f0_secondWon_10 f0_steps_11 f0_kind_12 f0_entered_13 am231_16 am232_19 am233_22 am234_25 am235_28 am236_31 am237_34 am238_37 am239_40 am2310_43 am2311_46 am2312_49 am2313_52 am2314_55))))))))
theorem qt_p_play {post : Int32 → St2 → Prop} {f0_on : Nat} {f0_trump : Nat} {f0_lead : Nat} {f0_played : Nat} {f0_firstWon : Nat} {f0_secondWon : Nat} {f0_steps : Nat} {f0_kind : Nat} {f0_entered : Nat} {a1 : Nat} {a2 : Nat} {a3 : Nat} {a4 : Nat} {a5 : Nat} {a6 : Nat} {a7 : Nat} {a8 : Nat} {a9 : Nat} {a10 : Nat} {a11 : Nat} {a12 : Nat} {a13 : Nat} {a14 : Nat} {p0_i : Int32} {p0 : Nat} {k : Nat → Nat → Nat → Nat → Nat → Nat → Nat → Nat → Nat → Nat → Nat → Nat → Nat → Nat → Nat → Nat → Nat → Nat → Nat → Nat → Nat → Nat → Nat → Nat → Bool} (e_p0 : p0_i = nI p0) (hk : ∀ (r s0 s1 s2 s3 s4 s5 s6 s7 s8 s9 s10 s11 s12 s13 s14 s15 s16 s17 s18 s19 s20 s21 s22 : Nat), k r s0 s1 s2 s3 s4 s5 s6 s7 s8 s9 s10 s11 s12 s13 s14 s15 s16 s17 s18 s19 s20 s21 s22 = true → post (nI r) (nI s0, nI s1, nI s2, nI s3, nI s4, nI s5, nI s6, nI s7, nI s8, qo_ar s9, qo_ar s10, qo_ar s11, qo_ar s12, qo_ar s13, qo_ar s14, qo_ar s15, qo_ar s16, qo_ar s17, qo_ar s18, qo_ar s19, qo_ar s20, qo_aL s21, qo_ar s22)) (h : qm_p_play f0_on f0_trump f0_lead f0_played f0_firstWon f0_secondWon f0_steps f0_kind f0_entered a1 a2 a3 a4 a5 a6 a7 a8 a9 a10 a11 a12 a13 a14 p0 k = true) : wpX_play post (nI f0_on, nI f0_trump, nI f0_lead, nI f0_played, nI f0_firstWon, nI f0_secondWon, nI f0_steps, nI f0_kind, nI f0_entered, qo_ar a1, qo_ar a2, qo_ar a3, qo_ar a4, qo_ar a5, qo_ar a6, qo_ar a7, qo_ar a8, qo_ar a9, qo_ar a10, qo_ar a11, qo_ar a12, qo_aL a13, qo_ar a14) p0_i := by
  subst e_p0
  unfold qm_p_play at h
  unfold wpX_play
  refine qo_br (qo_i_eq (qo_v f0_on) qo_k0) h (fun h => ?_) (fun h => ?_)
  · exact qo_pr qo_km3 h (fun rr_1 h => hk rr_1 f0_on f0_trump f0_lead f0_played f0_firstWon f0_secondWon f0_steps f0_kind f0_entered a1 a2 a3 a4 a5 a6 a7 a8 a9 a10 a11 a12 a13 a14 h)
  · refine qt_p_mayPlay (qo_v p0) (fun r_2 h => ?_) h
    refine qo_br (qo_i_eq (qo_v r_2) qo_k0) h (fun h => ?_) (fun h => ?_)
    · exact qo_pr qo_km4 h (fun rr_2 h => hk rr_2 f0_on f0_trump f0_lead f0_played f0_firstWon f0_secondWon f0_steps f0_kind f0_entered a1 a2 a3 a4 a5 a6 a7 a8 a9 a10 a11 a12 a13 a14 h)
    · refine qt_p_push (qo_v p0) (fun f0_on_5 f0_trump_6 f0_lead_7 f0_played_8 f0_firstWon_9 f0_secondWon_10 f0_steps_11 f0_kind_12 f0_entered_13 am231_16 am232_19 am233_22 am234_25 am235_28 am236_31 am237_34 am238_37 am239_40 am2310_43 am2311_46 am2312_49 am2313_52 am2314_55 h => ?_) h
      refine qo_br (qo_i_eq (qo_v f0_played_8) qo_k0) h (fun h => ?_) (fun h => ?_)
      · exact qo_pr qo_k4 h (fun rr_3 h => hk rr_3 f0_on_5 f0_trump_6 f0_lead_7 f0_played_8 f0_firstWon_9 f0_secondWon_10 f0_steps_11 f0_kind_12 f0_entered_13 am231_16 am232_19 am233_22 am234_25 am235_28 am236_31 am237_34 am238_37 am239_40 am2310_43 am2311_46 am2312_49 am2313_52 am2314_55 h)
      · exact hk f0_played_8 f0_on_5 f0_trump_6 f0_lead_7 f0_played_8 f0_firstWon_9 f0_secondWon_10 f0_steps_11 f0_kind_12 f0_entered_13 am231_16 am232_19 am233_22 am234_25 am235_28 am236_31 am237_34 am238_37 am239_40 am2310_43 am2311_46 am2312_49 am2313_52 am2314_55 h
noncomputable def qm_p_winning (f0_on f0_trump f0_lead f0_played a3 : Nat) (k : Nat → Bool) : Bool := (qo_if (qo_eq f0_on 0) (qo_fz 4294967293 k) (qo_if (qo_eq f0_played 0) (qo_fz 4294967292 k) (qm_p_bestPlace f0_trump f0_played a3 (fun r_3 => (qo_fz (Nat.land (qo_ad f0_lead r_3) 3) k)))))
theorem qt_p_winning {post : Int32 → Prop} {f0_on : Nat} {f0_trump : Nat} {f0_lead : Nat} {f0_played : Nat} {f0_firstWon : Int32} {f0_secondWon : Int32} {f0_steps : Int32} {f0_kind : Int32} {f0_entered : Int32} {a1 : Nat → Int32} {a2 : Nat → Int32} {a3 : Nat} {a4 : Nat → Int32} {a5 : Nat → Int32} {a6 : Nat → Int32} {a7 : Nat → Int32} {a8 : Nat → Int32} {a9 : Nat → Int32} {a10 : Nat → Int32} {a11 : Nat → Int32} {a12 : Nat → Int32} {a13 : Nat → Int64} {a14 : Nat → Int32} {k : Nat → Bool} (hk : ∀ r : Nat, k r = true → post (nI r)) (h : qm_p_winning f0_on f0_trump f0_lead f0_played a3 k = true) : wpX_winning post (nI f0_on, nI f0_trump, nI f0_lead, nI f0_played, f0_firstWon, f0_secondWon, f0_steps, f0_kind, f0_entered, a1, a2, qo_ar a3, a4, a5, a6, a7, a8, a9, a10, a11, a12, a13, a14) := by
  unfold qm_p_winning at h
  unfold wpX_winning
  refine qo_br (qo_i_eq (qo_v f0_on) qo_k0) h (fun h => ?_) (fun h => ?_)
  · exact qo_po qo_km3 h hk
  · refine qo_br (qo_i_eq (qo_v f0_played) qo_k0) h (fun h => ?_) (fun h => ?_)
    · exact qo_po qo_km4 h hk
    · refine qt_p_bestPlace  (fun r_3 h => ?_) h
      exact qo_po (qo_e_an (qo_e_ad (qo_v f0_lead) (qo_v r_3)) qo_k3) h hk
noncomputable def qm_p_after (f0_on f0_trump f0_lead f0_played f0_firstWon f0_secondWon f0_steps f0_kind f0_entered a1 a2 a3 a4 a5 a6 a7 a8 a9 a10 a11 a12 a13 a14 p0 : Nat) (k : Nat → Nat → Nat → Nat → Nat → Nat → Nat → Nat → Nat → Nat → Nat → Nat → Nat → Nat → Nat → Nat → Nat → Nat → Nat → Nat → Nat → Nat → Nat → Nat → Bool) : Bool := (qo_if (qo_eq f0_on 0) (qo_fz 4294967293 (fun rr_1 => k rr_1 f0_on f0_trump f0_lead f0_played f0_firstWon f0_secondWon f0_steps f0_kind f0_entered a1 a2 a3 a4 a5 a6 a7 a8 a9 a10 a11 a12 a13 a14)) (qm_p_mayPlay f0_lead f0_played a2 a3 p0 (fun r_2 => (qo_if (qo_eq r_2 0) (qo_fz 4294967292 (fun rr_2 => k rr_2 f0_on f0_trump f0_lead f0_played f0_firstWon f0_secondWon f0_steps f0_kind f0_entered a1 a2 a3 a4 a5 a6 a7 a8 a9 a10 a11 a12 a13 a14)) (qm_p_push f0_on f0_trump f0_lead f0_played f0_firstWon f0_secondWon f0_steps f0_kind f0_entered a1 a2 a3 a4 a5 a6 a7 a8 a9 a10 a11 a12 a13 a14 p0 (fun f0_on_5 f0_trump_6 f0_lead_7 f0_played_8 f0_firstWon_9 f0_secondWon_10 f0_steps_11 f0_kind_12 f0_entered_13 am231_16 am232_19 am233_22 am234_25 am235_28 am236_31 am237_34 am238_37 am239_40 am2310_43 am2311_46 am2312_49 am2313_52 am2314_55 => (qm_p_valueNow f0_on_5 f0_trump_6 f0_lead_7 f0_played_8 f0_firstWon_9 f0_secondWon_10 f0_steps_11 am231_16 am232_19 am233_22 am234_25 am235_28 am236_31 am237_34 am238_37 am239_40 am2310_43 am2311_46 am2312_49 am2313_52 am2314_55 (fun r_56 f0_on_57 f0_trump_58 f0_lead_59 f0_played_60 f0_firstWon_61 f0_secondWon_62 f0_steps_63 f0_kind_64 f0_entered_65 am271_68 am272_71 am273_74 am274_77 am275_80 am276_83 am277_86 am278_89 am279_92 am2710_95 am2711_98 am2712_101 am2713_104 am2714_107 => (qm_p_pop f0_on_57 f0_trump_58 f0_steps_63 f0_kind_64 f0_entered_65 am271_68 am272_71 am273_74 am274_77 am275_80 am276_83 am277_86 am278_89 am279_92 am2710_95 am2711_98 am2712_101 am2713_104 am2714_107 (fun r_108 f0_on_109 f0_trump_110 f0_lead_111 f0_played_112 f0_firstWon_113 f0_secondWon_114 f0_steps_115 f0_kind_116 f0_entered_117 am321_120 am322_123 am323_126 am324_129 am325_132 am326_135 am327_138 am328_141 am329_144 am3210_147 am3211_150 am3212_153 am3213_156 am3214_159 => (k r_56 f0_on_109 f0_trump_110 f0_lead_111 f0_played_112 f0_firstWon_113 f0_secondWon_114 f0_steps_115 f0_kind_116 f0_entered_117 am321_120 am322_123 am323_126 am324_129 am325_132 am326_135 am327_138 am328_141 am329_144 am3210_147 am3211_150 am3212_153 am3213_156 am3214_159)))))))))))
theorem qt_p_after {post : Int32 → St2 → Prop} {f0_on : Nat} {f0_trump : Nat} {f0_lead : Nat} {f0_played : Nat} {f0_firstWon : Nat} {f0_secondWon : Nat} {f0_steps : Nat} {f0_kind : Nat} {f0_entered : Nat} {a1 : Nat} {a2 : Nat} {a3 : Nat} {a4 : Nat} {a5 : Nat} {a6 : Nat} {a7 : Nat} {a8 : Nat} {a9 : Nat} {a10 : Nat} {a11 : Nat} {a12 : Nat} {a13 : Nat} {a14 : Nat} {p0_i : Int32} {p0 : Nat} {k : Nat → Nat → Nat → Nat → Nat → Nat → Nat → Nat → Nat → Nat → Nat → Nat → Nat → Nat → Nat → Nat → Nat → Nat → Nat → Nat → Nat → Nat → Nat → Nat → Bool} (e_p0 : p0_i = nI p0) (hk : ∀ (r s0 s1 s2 s3 s4 s5 s6 s7 s8 s9 s10 s11 s12 s13 s14 s15 s16 s17 s18 s19 s20 s21 s22 : Nat), k r s0 s1 s2 s3 s4 s5 s6 s7 s8 s9 s10 s11 s12 s13 s14 s15 s16 s17 s18 s19 s20 s21 s22 = true → post (nI r) (nI s0, nI s1, nI s2, nI s3, nI s4, nI s5, nI s6, nI s7, nI s8, qo_ar s9, qo_ar s10, qo_ar s11, qo_ar s12, qo_ar s13, qo_ar s14, qo_ar s15, qo_ar s16, qo_ar s17, qo_ar s18, qo_ar s19, qo_ar s20, qo_aL s21, qo_ar s22)) (h : qm_p_after f0_on f0_trump f0_lead f0_played f0_firstWon f0_secondWon f0_steps f0_kind f0_entered a1 a2 a3 a4 a5 a6 a7 a8 a9 a10 a11 a12 a13 a14 p0 k = true) : wpX_after post (nI f0_on, nI f0_trump, nI f0_lead, nI f0_played, nI f0_firstWon, nI f0_secondWon, nI f0_steps, nI f0_kind, nI f0_entered, qo_ar a1, qo_ar a2, qo_ar a3, qo_ar a4, qo_ar a5, qo_ar a6, qo_ar a7, qo_ar a8, qo_ar a9, qo_ar a10, qo_ar a11, qo_ar a12, qo_aL a13, qo_ar a14) p0_i := by
  subst e_p0
  unfold qm_p_after at h
  unfold wpX_after
  refine qo_br (qo_i_eq (qo_v f0_on) qo_k0) h (fun h => ?_) (fun h => ?_)
  · exact qo_pr qo_km3 h (fun rr_1 h => hk rr_1 f0_on f0_trump f0_lead f0_played f0_firstWon f0_secondWon f0_steps f0_kind f0_entered a1 a2 a3 a4 a5 a6 a7 a8 a9 a10 a11 a12 a13 a14 h)
  · refine qt_p_mayPlay (qo_v p0) (fun r_2 h => ?_) h
    refine qo_br (qo_i_eq (qo_v r_2) qo_k0) h (fun h => ?_) (fun h => ?_)
    · exact qo_pr qo_km4 h (fun rr_2 h => hk rr_2 f0_on f0_trump f0_lead f0_played f0_firstWon f0_secondWon f0_steps f0_kind f0_entered a1 a2 a3 a4 a5 a6 a7 a8 a9 a10 a11 a12 a13 a14 h)
    · refine qt_p_push (qo_v p0) (fun f0_on_5 f0_trump_6 f0_lead_7 f0_played_8 f0_firstWon_9 f0_secondWon_10 f0_steps_11 f0_kind_12 f0_entered_13 am231_16 am232_19 am233_22 am234_25 am235_28 am236_31 am237_34 am238_37 am239_40 am2310_43 am2311_46 am2312_49 am2313_52 am2314_55 h => ?_) h
      refine qt_p_valueNow  (fun r_56 f0_on_57 f0_trump_58 f0_lead_59 f0_played_60 f0_firstWon_61 f0_secondWon_62 f0_steps_63 f0_kind_64 f0_entered_65 am271_68 am272_71 am273_74 am274_77 am275_80 am276_83 am277_86 am278_89 am279_92 am2710_95 am2711_98 am2712_101 am2713_104 am2714_107 h => ?_) h
      refine qt_p_pop  (fun r_108 f0_on_109 f0_trump_110 f0_lead_111 f0_played_112 f0_firstWon_113 f0_secondWon_114 f0_steps_115 f0_kind_116 f0_entered_117 am321_120 am322_123 am323_126 am324_129 am325_132 am326_135 am327_138 am328_141 am329_144 am3210_147 am3211_150 am3212_153 am3213_156 am3214_159 h => ?_) h
      exact hk r_56 f0_on_109 f0_trump_110 f0_lead_111 f0_played_112 f0_firstWon_113 f0_secondWon_114 f0_steps_115 f0_kind_116 f0_entered_117 am321_120 am322_123 am323_126 am324_129 am325_132 am326_135 am327_138 am328_141 am329_144 am3210_147 am3211_150 am3212_153 am3213_156 am3214_159 h
noncomputable def qm_p_least (f0_on f0_trump f0_lead f0_played f0_firstWon f0_secondWon f0_steps f0_kind f0_entered a1 a2 a3 a4 a5 a6 a7 a8 a9 a10 a11 a12 a13 a14 : Nat) (k : Nat → Nat → Nat → Nat → Nat → Nat → Nat → Nat → Nat → Nat → Nat → Nat → Nat → Nat → Nat → Nat → Nat → Nat → Nat → Nat → Nat → Nat → Nat → Nat → Bool) : Bool := (qo_if (qo_eq f0_on 0) (qo_fz 4294967293 (fun rr_1 => k rr_1 f0_on f0_trump f0_lead f0_played f0_firstWon f0_secondWon f0_steps f0_kind f0_entered a1 a2 a3 a4 a5 a6 a7 a8 a9 a10 a11 a12 a13 a14)) (qm_p_search f0_on f0_trump f0_lead f0_played f0_firstWon f0_secondWon f0_steps a1 a2 a3 a4 a5 a6 a7 a8 a9 a10 a11 a12 a13 a14 1 (fun r_2 f0_on_3 f0_trump_4 f0_lead_5 f0_played_6 f0_firstWon_7 f0_secondWon_8 f0_steps_9 f0_kind_10 f0_entered_11 am121_14 am122_17 am123_20 am124_23 am125_26 am126_29 am127_32 am128_35 am129_38 am1210_41 am1211_44 am1212_47 am1213_50 am1214_53 => (qo_fz (qo_ad f0_firstWon_7 r_2) (fun rr_2 => k rr_2 f0_on_3 f0_trump_4 f0_lead_5 f0_played_6 f0_firstWon_7 f0_secondWon_8 f0_steps_9 f0_kind_10 f0_entered_11 am121_14 am122_17 am123_20 am124_23 am125_26 am126_29 am127_32 am128_35 am129_38 am1210_41 am1211_44 am1212_47 am1213_50 am1214_53)))))
theorem qt_p_least {post : Int32 → St2 → Prop} {f0_on : Nat} {f0_trump : Nat} {f0_lead : Nat} {f0_played : Nat} {f0_firstWon : Nat} {f0_secondWon : Nat} {f0_steps : Nat} {f0_kind : Nat} {f0_entered : Nat} {a1 : Nat} {a2 : Nat} {a3 : Nat} {a4 : Nat} {a5 : Nat} {a6 : Nat} {a7 : Nat} {a8 : Nat} {a9 : Nat} {a10 : Nat} {a11 : Nat} {a12 : Nat} {a13 : Nat} {a14 : Nat} {k : Nat → Nat → Nat → Nat → Nat → Nat → Nat → Nat → Nat → Nat → Nat → Nat → Nat → Nat → Nat → Nat → Nat → Nat → Nat → Nat → Nat → Nat → Nat → Nat → Bool} (hk : ∀ (r s0 s1 s2 s3 s4 s5 s6 s7 s8 s9 s10 s11 s12 s13 s14 s15 s16 s17 s18 s19 s20 s21 s22 : Nat), k r s0 s1 s2 s3 s4 s5 s6 s7 s8 s9 s10 s11 s12 s13 s14 s15 s16 s17 s18 s19 s20 s21 s22 = true → post (nI r) (nI s0, nI s1, nI s2, nI s3, nI s4, nI s5, nI s6, nI s7, nI s8, qo_ar s9, qo_ar s10, qo_ar s11, qo_ar s12, qo_ar s13, qo_ar s14, qo_ar s15, qo_ar s16, qo_ar s17, qo_ar s18, qo_ar s19, qo_ar s20, qo_aL s21, qo_ar s22)) (h : qm_p_least f0_on f0_trump f0_lead f0_played f0_firstWon f0_secondWon f0_steps f0_kind f0_entered a1 a2 a3 a4 a5 a6 a7 a8 a9 a10 a11 a12 a13 a14 k = true) : wpX_least post (nI f0_on, nI f0_trump, nI f0_lead, nI f0_played, nI f0_firstWon, nI f0_secondWon, nI f0_steps, nI f0_kind, nI f0_entered, qo_ar a1, qo_ar a2, qo_ar a3, qo_ar a4, qo_ar a5, qo_ar a6, qo_ar a7, qo_ar a8, qo_ar a9, qo_ar a10, qo_ar a11, qo_ar a12, qo_aL a13, qo_ar a14) := by
  unfold qm_p_least at h
  unfold wpX_least
  refine qo_br (qo_i_eq (qo_v f0_on) qo_k0) h (fun h => ?_) (fun h => ?_)
  · exact qo_pr qo_km3 h (fun rr_1 h => hk rr_1 f0_on f0_trump f0_lead f0_played f0_firstWon f0_secondWon f0_steps f0_kind f0_entered a1 a2 a3 a4 a5 a6 a7 a8 a9 a10 a11 a12 a13 a14 h)
  · refine qt_p_search qo_k1 (fun r_2 f0_on_3 f0_trump_4 f0_lead_5 f0_played_6 f0_firstWon_7 f0_secondWon_8 f0_steps_9 f0_kind_10 f0_entered_11 am121_14 am122_17 am123_20 am124_23 am125_26 am126_29 am127_32 am128_35 am129_38 am1210_41 am1211_44 am1212_47 am1213_50 am1214_53 h => ?_) h
    exact qo_pr (qo_e_ad (qo_v f0_firstWon_7) (qo_v r_2)) h (fun rr_2 h => hk rr_2 f0_on_3 f0_trump_4 f0_lead_5 f0_played_6 f0_firstWon_7 f0_secondWon_8 f0_steps_9 f0_kind_10 f0_entered_11 am121_14 am122_17 am123_20 am124_23 am125_26 am126_29 am127_32 am128_35 am129_38 am1210_41 am1211_44 am1212_47 am1213_50 am1214_53 h)
noncomputable def qm_p_courses (f0_on f0_trump f0_lead f0_played f0_firstWon f0_secondWon f0_steps f0_kind f0_entered a1 a2 a3 a4 a5 a6 a7 a8 a9 a10 a11 a12 a13 a14 : Nat) (k : Nat → Nat → Nat → Nat → Nat → Nat → Nat → Nat → Nat → Nat → Nat → Nat → Nat → Nat → Nat → Nat → Nat → Nat → Nat → Nat → Nat → Nat → Nat → Nat → Bool) : Bool := (qo_if (qo_eq f0_on 0) (qo_fz 4294967293 (fun rr_1 => k rr_1 f0_on f0_trump f0_lead f0_played f0_firstWon f0_secondWon f0_steps f0_kind f0_entered a1 a2 a3 a4 a5 a6 a7 a8 a9 a10 a11 a12 a13 a14)) (qm_p_search f0_on f0_trump f0_lead f0_played f0_firstWon f0_secondWon f0_steps a1 a2 a3 a4 a5 a6 a7 a8 a9 a10 a11 a12 a13 a14 2 (fun r_2 f0_on_3 f0_trump_4 f0_lead_5 f0_played_6 f0_firstWon_7 f0_secondWon_8 f0_steps_9 f0_kind_10 f0_entered_11 am91_14 am92_17 am93_20 am94_23 am95_26 am96_29 am97_32 am98_35 am99_38 am910_41 am911_44 am912_47 am913_50 am914_53 => (k r_2 f0_on_3 f0_trump_4 f0_lead_5 f0_played_6 f0_firstWon_7 f0_secondWon_8 f0_steps_9 f0_kind_10 f0_entered_11 am91_14 am92_17 am93_20 am94_23 am95_26 am96_29 am97_32 am98_35 am99_38 am910_41 am911_44 am912_47 am913_50 am914_53))))
theorem qt_p_courses {post : Int32 → St2 → Prop} {f0_on : Nat} {f0_trump : Nat} {f0_lead : Nat} {f0_played : Nat} {f0_firstWon : Nat} {f0_secondWon : Nat} {f0_steps : Nat} {f0_kind : Nat} {f0_entered : Nat} {a1 : Nat} {a2 : Nat} {a3 : Nat} {a4 : Nat} {a5 : Nat} {a6 : Nat} {a7 : Nat} {a8 : Nat} {a9 : Nat} {a10 : Nat} {a11 : Nat} {a12 : Nat} {a13 : Nat} {a14 : Nat} {k : Nat → Nat → Nat → Nat → Nat → Nat → Nat → Nat → Nat → Nat → Nat → Nat → Nat → Nat → Nat → Nat → Nat → Nat → Nat → Nat → Nat → Nat → Nat → Nat → Bool} (hk : ∀ (r s0 s1 s2 s3 s4 s5 s6 s7 s8 s9 s10 s11 s12 s13 s14 s15 s16 s17 s18 s19 s20 s21 s22 : Nat), k r s0 s1 s2 s3 s4 s5 s6 s7 s8 s9 s10 s11 s12 s13 s14 s15 s16 s17 s18 s19 s20 s21 s22 = true → post (nI r) (nI s0, nI s1, nI s2, nI s3, nI s4, nI s5, nI s6, nI s7, nI s8, qo_ar s9, qo_ar s10, qo_ar s11, qo_ar s12, qo_ar s13, qo_ar s14, qo_ar s15, qo_ar s16, qo_ar s17, qo_ar s18, qo_ar s19, qo_ar s20, qo_aL s21, qo_ar s22)) (h : qm_p_courses f0_on f0_trump f0_lead f0_played f0_firstWon f0_secondWon f0_steps f0_kind f0_entered a1 a2 a3 a4 a5 a6 a7 a8 a9 a10 a11 a12 a13 a14 k = true) : wpX_courses post (nI f0_on, nI f0_trump, nI f0_lead, nI f0_played, nI f0_firstWon, nI f0_secondWon, nI f0_steps, nI f0_kind, nI f0_entered, qo_ar a1, qo_ar a2, qo_ar a3, qo_ar a4, qo_ar a5, qo_ar a6, qo_ar a7, qo_ar a8, qo_ar a9, qo_ar a10, qo_ar a11, qo_ar a12, qo_aL a13, qo_ar a14) := by
  unfold qm_p_courses at h
  unfold wpX_courses
  refine qo_br (qo_i_eq (qo_v f0_on) qo_k0) h (fun h => ?_) (fun h => ?_)
  · exact qo_pr qo_km3 h (fun rr_1 h => hk rr_1 f0_on f0_trump f0_lead f0_played f0_firstWon f0_secondWon f0_steps f0_kind f0_entered a1 a2 a3 a4 a5 a6 a7 a8 a9 a10 a11 a12 a13 a14 h)
  · refine qt_p_search qo_k2 (fun r_2 f0_on_3 f0_trump_4 f0_lead_5 f0_played_6 f0_firstWon_7 f0_secondWon_8 f0_steps_9 f0_kind_10 f0_entered_11 am91_14 am92_17 am93_20 am94_23 am95_26 am96_29 am97_32 am98_35 am99_38 am910_41 am911_44 am912_47 am913_50 am914_53 h => ?_) h
    exact hk r_2 f0_on_3 f0_trump_4 f0_lead_5 f0_played_6 f0_firstWon_7 f0_secondWon_8 f0_steps_9 f0_kind_10 f0_entered_11 am91_14 am92_17 am93_20 am94_23 am95_26 am96_29 am97_32 am98_35 am99_38 am910_41 am911_44 am912_47 am913_50 am914_53 h
noncomputable def qm_p_legal (f0_on f0_lead f0_played a2 a3 : Nat) (k : Nat → Bool) : Bool := (qo_if (qo_eq f0_on 0) (qo_fz 4294967293 k) (qm_p_legalNow f0_lead f0_played a2 a3 (fun r_2 => (k r_2))))
theorem qt_p_legal {post : Int32 → Prop} {f0_on : Nat} {f0_trump : Int32} {f0_lead : Nat} {f0_played : Nat} {f0_firstWon : Int32} {f0_secondWon : Int32} {f0_steps : Int32} {f0_kind : Int32} {f0_entered : Int32} {a1 : Nat → Int32} {a2 : Nat} {a3 : Nat} {a4 : Nat → Int32} {a5 : Nat → Int32} {a6 : Nat → Int32} {a7 : Nat → Int32} {a8 : Nat → Int32} {a9 : Nat → Int32} {a10 : Nat → Int32} {a11 : Nat → Int32} {a12 : Nat → Int32} {a13 : Nat → Int64} {a14 : Nat → Int32} {k : Nat → Bool} (hk : ∀ r : Nat, k r = true → post (nI r)) (h : qm_p_legal f0_on f0_lead f0_played a2 a3 k = true) : wpX_legal post (nI f0_on, f0_trump, nI f0_lead, nI f0_played, f0_firstWon, f0_secondWon, f0_steps, f0_kind, f0_entered, a1, qo_ar a2, qo_ar a3, a4, a5, a6, a7, a8, a9, a10, a11, a12, a13, a14) := by
  unfold qm_p_legal at h
  unfold wpX_legal
  refine qo_br (qo_i_eq (qo_v f0_on) qo_k0) h (fun h => ?_) (fun h => ?_)
  · exact qo_po qo_km3 h hk
  · refine qt_p_legalNow  (fun r_2 h => ?_) h
    exact hk r_2 h
noncomputable def qm_p_best (f0_on f0_trump f0_lead f0_played f0_firstWon f0_secondWon f0_steps f0_kind f0_entered a1 a2 a3 a4 a5 a6 a7 a8 a9 a10 a11 a12 a13 a14 : Nat) (k : Nat → Nat → Nat → Nat → Nat → Nat → Nat → Nat → Nat → Nat → Nat → Nat → Nat → Nat → Nat → Nat → Nat → Nat → Nat → Nat → Nat → Nat → Nat → Nat → Bool) : Bool := (qo_if (qo_eq f0_on 0) (qo_fz 4294967293 (fun rr_1 => k rr_1 f0_on f0_trump f0_lead f0_played f0_firstWon f0_secondWon f0_steps f0_kind f0_entered a1 a2 a3 a4 a5 a6 a7 a8 a9 a10 a11 a12 a13 a14)) false)
theorem qt_p_best {post : Int32 → St2 → Prop} {f0_on : Nat} {f0_trump : Nat} {f0_lead : Nat} {f0_played : Nat} {f0_firstWon : Nat} {f0_secondWon : Nat} {f0_steps : Nat} {f0_kind : Nat} {f0_entered : Nat} {a1 : Nat} {a2 : Nat} {a3 : Nat} {a4 : Nat} {a5 : Nat} {a6 : Nat} {a7 : Nat} {a8 : Nat} {a9 : Nat} {a10 : Nat} {a11 : Nat} {a12 : Nat} {a13 : Nat} {a14 : Nat} {k : Nat → Nat → Nat → Nat → Nat → Nat → Nat → Nat → Nat → Nat → Nat → Nat → Nat → Nat → Nat → Nat → Nat → Nat → Nat → Nat → Nat → Nat → Nat → Nat → Bool} (hk : ∀ (r s0 s1 s2 s3 s4 s5 s6 s7 s8 s9 s10 s11 s12 s13 s14 s15 s16 s17 s18 s19 s20 s21 s22 : Nat), k r s0 s1 s2 s3 s4 s5 s6 s7 s8 s9 s10 s11 s12 s13 s14 s15 s16 s17 s18 s19 s20 s21 s22 = true → post (nI r) (nI s0, nI s1, nI s2, nI s3, nI s4, nI s5, nI s6, nI s7, nI s8, qo_ar s9, qo_ar s10, qo_ar s11, qo_ar s12, qo_ar s13, qo_ar s14, qo_ar s15, qo_ar s16, qo_ar s17, qo_ar s18, qo_ar s19, qo_ar s20, qo_aL s21, qo_ar s22)) (h : qm_p_best f0_on f0_trump f0_lead f0_played f0_firstWon f0_secondWon f0_steps f0_kind f0_entered a1 a2 a3 a4 a5 a6 a7 a8 a9 a10 a11 a12 a13 a14 k = true) : wpX_best post (nI f0_on, nI f0_trump, nI f0_lead, nI f0_played, nI f0_firstWon, nI f0_secondWon, nI f0_steps, nI f0_kind, nI f0_entered, qo_ar a1, qo_ar a2, qo_ar a3, qo_ar a4, qo_ar a5, qo_ar a6, qo_ar a7, qo_ar a8, qo_ar a9, qo_ar a10, qo_ar a11, qo_ar a12, qo_aL a13, qo_ar a14) := by
  unfold qm_p_best at h
  unfold wpX_best
  refine qo_br (qo_i_eq (qo_v f0_on) qo_k0) h (fun h => ?_) (fun h => ?_)
  · exact qo_pr qo_km3 h (fun rr_1 h => hk rr_1 f0_on f0_trump f0_lead f0_played f0_firstWon f0_secondWon f0_steps f0_kind f0_entered a1 a2 a3 a4 a5 a6 a7 a8 a9 a10 a11 a12 a13 a14 h)
  · exact qo_no h
end
section
noncomputable def qm_LlawOf_779 (x5 x6 z0 z1 z2 fm0_on fm0_trump fm0_lead fm0_played fm0_firstWon fm0_secondWon fm0_steps fm0_kind fm0_entered am7401 am7402 am7403 am7404 am7405 am7406 am7407 am7408 am7409 am74010 am74011 am74012 am74013 am74014 : Nat) (k : Nat → Bool) : Bool := (qo_if (qo_eq z2 (Nat.lor z1 z0)) (qm_p_deal fm0_on fm0_trump fm0_lead fm0_played fm0_firstWon fm0_secondWon fm0_steps fm0_kind fm0_entered am7401 am7402 am7403 am7404 am7405 am7406 am7407 am7408 am7409 am74010 am74011 am74012 am74013 am74014 12 0 (fun r_189 fm0_on_190 fm0_trump_191 fm0_lead_192 fm0_played_193 fm0_firstWon_194 fm0_secondWon_195 fm0_steps_196 fm0_kind_197 fm0_entered_198 am7871_201 am7872_204 am7873_207 am7874_210 am7875_213 am7876_216 am7877_219 am7878_222 am7879_225 am78710_228 am78711_231 am78712_234 am78713_237 am78714_240 => (qo_if (qo_eq r_189 4294967295) (qm_p_deal fm0_on_190 fm0_trump_191 fm0_lead_192 fm0_played_193 fm0_firstWon_194 fm0_secondWon_195 fm0_steps_196 fm0_kind_197 fm0_entered_198 am7871_201 am7872_204 am7873_207 am7874_210 am7875_213 am7876_216 am7877_219 am7878_222 am7879_225 am78710_228 am78711_231 am78712_234 am78713_237 am78714_240 0 4 (fun r_242 fm0_on_243 fm0_trump_244 fm0_lead_245 fm0_played_246 fm0_firstWon_247 fm0_secondWon_248 fm0_steps_249 fm0_kind_250 fm0_entered_251 am7971_254 am7972_257 am7973_260 am7974_263 am7975_266 am7976_269 am7977_272 am7978_275 am7979_278 am79710_281 am79711_284 am79712_287 am79713_290 am79714_293 => (qo_if (qo_eq r_242 4294967295) (qm_p_start fm0_on_243 fm0_trump_244 fm0_lead_245 fm0_played_246 fm0_firstWon_247 fm0_secondWon_248 fm0_steps_249 fm0_kind_250 fm0_entered_251 am7971_254 am7972_257 am7973_260 am7974_263 am7975_266 am7976_269 am7977_272 am7978_275 am7979_278 am79710_281 am79711_284 am79712_287 am79713_290 am79714_293 4 0 (fun r_295 fm0_on_296 fm0_trump_297 fm0_lead_298 fm0_played_299 fm0_firstWon_300 fm0_secondWon_301 fm0_steps_302 fm0_kind_303 fm0_entered_304 am8071_307 am8072_310 am8073_313 am8074_316 am8075_319 am8076_322 am8077_325 am8078_328 am8079_331 am80710_334 am80711_337 am80712_340 am80713_343 am80714_346 => (qo_if (qo_eq r_295 4294967295) (qm_p_start fm0_on_296 fm0_trump_297 fm0_lead_298 fm0_played_299 fm0_firstWon_300 fm0_secondWon_301 fm0_steps_302 fm0_kind_303 fm0_entered_304 am8071_307 am8072_310 am8073_313 am8074_316 am8075_319 am8076_322 am8077_325 am8078_328 am8079_331 am80710_334 am80711_337 am80712_340 am80713_343 am80714_346 0 3 (fun r_348 fm0_on_349 fm0_trump_350 fm0_lead_351 fm0_played_352 fm0_firstWon_353 fm0_secondWon_354 fm0_steps_355 fm0_kind_356 fm0_entered_357 am8171_360 am8172_363 am8173_366 am8174_369 am8175_372 am8176_375 am8177_378 am8178_381 am8179_384 am81710_387 am81711_390 am81712_393 am81713_396 am81714_399 => (qo_if (qo_eq r_348 4294967295) (qm_p_hand am8172_363 4 (fun r_401 => (qo_if (qo_eq r_401 4294967295) (qm_p_deal fm0_on_349 fm0_trump_350 fm0_lead_351 fm0_played_352 fm0_firstWon_353 fm0_secondWon_354 fm0_steps_355 fm0_kind_356 fm0_entered_357 am8171_360 am8172_363 am8173_366 am8174_369 am8175_372 am8176_375 am8177_378 am8178_381 am8179_384 am81710_387 am81711_390 am81712_393 am81713_396 am81714_399 0 x5 (fun r_403 fm0_on_404 fm0_trump_405 fm0_lead_406 fm0_played_407 fm0_firstWon_408 fm0_secondWon_409 fm0_steps_410 fm0_kind_411 fm0_entered_412 am8371_415 am8372_418 am8373_421 am8374_424 am8375_427 am8376_430 am8377_433 am8378_436 am8379_439 am83710_442 am83711_445 am83712_448 am83713_451 am83714_454 => (qo_if (qo_eq r_403 (qo_mu 4 x6)) (qo_fz 1 (fun rr_1 => k rr_1)) false))) false))) false))) false))) false))) false))) false)
theorem qt_LlawOf_779 {post : Int32 → St0 → Prop} {mc : Nat} {ms : Nat} {kc : Nat} {ks : Nat} {x5_i : Int32} {x5 : Nat} {x6_i : Int32} {x6 : Nat} {z0_i : Int32} {z0 : Nat} {z1_i : Int32} {z1 : Nat} {z2_i : Int32} {z2 : Nat} {fm0_on : Nat} {fm0_trump : Nat} {fm0_lead : Nat} {fm0_played : Nat} {fm0_firstWon : Nat} {fm0_secondWon : Nat} {fm0_steps : Nat} {fm0_kind : Nat} {fm0_entered : Nat} {am7401 : Nat} {am7402 : Nat} {am7403 : Nat} {am7404 : Nat} {am7405 : Nat} {am7406 : Nat} {am7407 : Nat} {am7408 : Nat} {am7409 : Nat} {am74010 : Nat} {am74011 : Nat} {am74012 : Nat} {am74013 : Nat} {am74014 : Nat} {k : Nat → Bool} (e_x5 : x5_i = nI x5) (e_x6 : x6_i = nI x6) (e_z0 : z0_i = nI z0) (e_z1 : z1_i = nI z1) (e_z2 : z2_i = nI z2) (hk : ∀ r : Nat, k r = true → post (nI r) ()) (h : qm_LlawOf_779 x5 x6 z0 z1 z2 fm0_on fm0_trump fm0_lead fm0_played fm0_firstWon fm0_secondWon fm0_steps fm0_kind fm0_entered am7401 am7402 am7403 am7404 am7405 am7406 am7407 am7408 am7409 am74010 am74011 am74012 am74013 am74014 k = true) : wL_lawOf_779 post mc ms x5_i x6_i z0_i z1_i z2_i kc ks (nI fm0_on) (nI fm0_trump) (nI fm0_lead) (nI fm0_played) (nI fm0_firstWon) (nI fm0_secondWon) (nI fm0_steps) (nI fm0_kind) (nI fm0_entered) (qo_ar am7401) (qo_ar am7402) (qo_ar am7403) (qo_ar am7404) (qo_ar am7405) (qo_ar am7406) (qo_ar am7407) (qo_ar am7408) (qo_ar am7409) (qo_ar am74010) (qo_ar am74011) (qo_ar am74012) (qo_aL am74013) (qo_ar am74014) := by
  subst e_x5
  subst e_x6
  subst e_z0
  subst e_z1
  subst e_z2
  unfold qm_LlawOf_779 at h
  unfold wL_lawOf_779
  refine qo_br (qo_i_eq (qo_v z2) (qo_e_or (qo_v z1) (qo_v z0))) h (fun h => ?_) (fun h => ?_)
  · refine qt_p_deal qo_k12 qo_k0 (fun r_189 fm0_on_190 fm0_trump_191 fm0_lead_192 fm0_played_193 fm0_firstWon_194 fm0_secondWon_195 fm0_steps_196 fm0_kind_197 fm0_entered_198 am7871_201 am7872_204 am7873_207 am7874_210 am7875_213 am7876_216 am7877_219 am7878_222 am7879_225 am78710_228 am78711_231 am78712_234 am78713_237 am78714_240 h => ?_) h
    refine qo_br (qo_i_eq (qo_v r_189) qo_km1) h (fun h => ?_) (fun h => ?_)
    · refine qt_p_deal qo_k0 qo_k4 (fun r_242 fm0_on_243 fm0_trump_244 fm0_lead_245 fm0_played_246 fm0_firstWon_247 fm0_secondWon_248 fm0_steps_249 fm0_kind_250 fm0_entered_251 am7971_254 am7972_257 am7973_260 am7974_263 am7975_266 am7976_269 am7977_272 am7978_275 am7979_278 am79710_281 am79711_284 am79712_287 am79713_290 am79714_293 h => ?_) h
      refine qo_br (qo_i_eq (qo_v r_242) qo_km1) h (fun h => ?_) (fun h => ?_)
      · refine qt_p_start qo_k4 qo_k0 (fun r_295 fm0_on_296 fm0_trump_297 fm0_lead_298 fm0_played_299 fm0_firstWon_300 fm0_secondWon_301 fm0_steps_302 fm0_kind_303 fm0_entered_304 am8071_307 am8072_310 am8073_313 am8074_316 am8075_319 am8076_322 am8077_325 am8078_328 am8079_331 am80710_334 am80711_337 am80712_340 am80713_343 am80714_346 h => ?_) h
        refine qo_br (qo_i_eq (qo_v r_295) qo_km1) h (fun h => ?_) (fun h => ?_)
        · refine qt_p_start qo_k0 qo_k3 (fun r_348 fm0_on_349 fm0_trump_350 fm0_lead_351 fm0_played_352 fm0_firstWon_353 fm0_secondWon_354 fm0_steps_355 fm0_kind_356 fm0_entered_357 am8171_360 am8172_363 am8173_366 am8174_369 am8175_372 am8176_375 am8177_378 am8178_381 am8179_384 am81710_387 am81711_390 am81712_393 am81713_396 am81714_399 h => ?_) h
          refine qo_br (qo_i_eq (qo_v r_348) qo_km1) h (fun h => ?_) (fun h => ?_)
          · refine qt_p_hand qo_k4 (fun r_401 h => ?_) h
            refine qo_br (qo_i_eq (qo_v r_401) qo_km1) h (fun h => ?_) (fun h => ?_)
            · refine qt_p_deal qo_k0 (qo_v x5) (fun r_403 fm0_on_404 fm0_trump_405 fm0_lead_406 fm0_played_407 fm0_firstWon_408 fm0_secondWon_409 fm0_steps_410 fm0_kind_411 fm0_entered_412 am8371_415 am8372_418 am8373_421 am8374_424 am8375_427 am8376_430 am8377_433 am8378_436 am8379_439 am83710_442 am83711_445 am83712_448 am83713_451 am83714_454 h => ?_) h
              refine qo_br (qo_i_eq (qo_v r_403) (qo_e_mu qo_k4 (qo_v x6))) h (fun h => ?_) (fun h => ?_)
              · exact qo_pr qo_k1 h (fun rr_1 h => hk rr_1 h)
              · exact qo_no h
            · exact qo_no h
          · exact qo_no h
        · exact qo_no h
      · exact qo_no h
    · exact qo_no h
  · exact qo_no h
noncomputable def qm_LlawOf_766 (x5 x6 z0 z1 fm0_on fm0_trump fm0_lead fm0_played fm0_firstWon fm0_secondWon fm0_steps fm0_kind fm0_entered am7401 am7402 am7403 am7404 am7405 am7406 am7407 am7408 am7409 am74010 am74011 am74012 am74013 am74014 : Nat) (k : Nat → Bool) : Bool := (qo_if (qo_le x6 2) (qm_LlawOf_779 x5 x6 0 z0 z1 fm0_on fm0_trump fm0_lead fm0_played fm0_firstWon fm0_secondWon fm0_steps fm0_kind fm0_entered am7401 am7402 am7403 am7404 am7405 am7406 am7407 am7408 am7409 am74010 am74011 am74012 am74013 am74014 k) (qm_LlawOf_779 x5 x6 256 z0 z1 fm0_on fm0_trump fm0_lead fm0_played fm0_firstWon fm0_secondWon fm0_steps fm0_kind fm0_entered am7401 am7402 am7403 am7404 am7405 am7406 am7407 am7408 am7409 am74010 am74011 am74012 am74013 am74014 k))
theorem qt_LlawOf_766 {post : Int32 → St0 → Prop} {mc : Nat} {ms : Nat} {kc : Nat} {ks : Nat} {x5_i : Int32} {x5 : Nat} {x6_i : Int32} {x6 : Nat} {z0_i : Int32} {z0 : Nat} {z1_i : Int32} {z1 : Nat} {fm0_on : Nat} {fm0_trump : Nat} {fm0_lead : Nat} {fm0_played : Nat} {fm0_firstWon : Nat} {fm0_secondWon : Nat} {fm0_steps : Nat} {fm0_kind : Nat} {fm0_entered : Nat} {am7401 : Nat} {am7402 : Nat} {am7403 : Nat} {am7404 : Nat} {am7405 : Nat} {am7406 : Nat} {am7407 : Nat} {am7408 : Nat} {am7409 : Nat} {am74010 : Nat} {am74011 : Nat} {am74012 : Nat} {am74013 : Nat} {am74014 : Nat} {k : Nat → Bool} (e_x5 : x5_i = nI x5) (e_x6 : x6_i = nI x6) (e_z0 : z0_i = nI z0) (e_z1 : z1_i = nI z1) (hk : ∀ r : Nat, k r = true → post (nI r) ()) (h : qm_LlawOf_766 x5 x6 z0 z1 fm0_on fm0_trump fm0_lead fm0_played fm0_firstWon fm0_secondWon fm0_steps fm0_kind fm0_entered am7401 am7402 am7403 am7404 am7405 am7406 am7407 am7408 am7409 am74010 am74011 am74012 am74013 am74014 k = true) : wL_lawOf_766 post mc ms x5_i x6_i z0_i z1_i kc ks (nI fm0_on) (nI fm0_trump) (nI fm0_lead) (nI fm0_played) (nI fm0_firstWon) (nI fm0_secondWon) (nI fm0_steps) (nI fm0_kind) (nI fm0_entered) (qo_ar am7401) (qo_ar am7402) (qo_ar am7403) (qo_ar am7404) (qo_ar am7405) (qo_ar am7406) (qo_ar am7407) (qo_ar am7408) (qo_ar am7409) (qo_ar am74010) (qo_ar am74011) (qo_ar am74012) (qo_aL am74013) (qo_ar am74014) := by
  subst e_x5
  subst e_x6
  subst e_z0
  subst e_z1
  unfold qm_LlawOf_766 at h
  unfold wL_lawOf_766
  refine qo_br (qo_i_le (qo_v x6) qo_k2) h (fun h => ?_) (fun h => ?_)
  · exact qt_LlawOf_779 (qo_v x5) (qo_v x6) qo_k0 (qo_v z0) (qo_v z1) hk h
  · exact qt_LlawOf_779 (qo_v x5) (qo_v x6) qo_k256 (qo_v z0) (qo_v z1) hk h
noncomputable def qm_LlawOf_702 (x5 x6 z0 fm0_on fm0_trump fm0_lead fm0_played fm0_firstWon fm0_secondWon fm0_steps fm0_kind fm0_entered am41 am42 am43 am44 am45 am46 am47 am48 am49 am410 am411 am412 am413 am414 : Nat) (k : Nat → Bool) : Bool := (qm_p_deal fm0_on fm0_trump fm0_lead fm0_played fm0_firstWon fm0_secondWon fm0_steps fm0_kind fm0_entered am41 am42 am43 am44 am45 am46 am47 am48 am49 am410 am411 am412 am413 am414 0 4294967295 (fun r_76 fm0_on_77 fm0_trump_78 fm0_lead_79 fm0_played_80 fm0_firstWon_81 fm0_secondWon_82 fm0_steps_83 fm0_kind_84 fm0_entered_85 am7071_88 am7072_91 am7073_94 am7074_97 am7075_100 am7076_103 am7077_106 am7078_109 am7079_112 am70710_115 am70711_118 am70712_121 am70713_124 am70714_127 => (qo_if (qo_eq z0 0) false (qo_if (qo_eq r_76 (qo_su (qo_mu 4 x6) 1)) (qm_p_toPlay fm0_on_77 fm0_lead_79 fm0_played_80 am7072_91 (fun r_130 => (qo_if (qo_eq r_130 4294967293) (qm_p_start fm0_on_77 fm0_trump_78 fm0_lead_79 fm0_played_80 fm0_firstWon_81 fm0_secondWon_82 fm0_steps_83 fm0_kind_84 fm0_entered_85 am7071_88 am7072_91 am7073_94 am7074_97 am7075_100 am7076_103 am7077_106 am7078_109 am7079_112 am70710_115 am70711_118 am70712_121 am70713_124 am70714_127 0 0 (fun r_132 fm0_on_133 fm0_trump_134 fm0_lead_135 fm0_played_136 fm0_firstWon_137 fm0_secondWon_138 fm0_steps_139 fm0_kind_140 fm0_entered_141 am7401_144 am7402_147 am7403_150 am7404_153 am7405_156 am7406_159 am7407_162 am7408_165 am7409_168 am74010_171 am74011_174 am74012_177 am74013_180 am74014_183 => (qo_if (qo_eq r_132 4294967292) (qm_p_hand am7402_147 x5 (fun r_185 => (qo_if (qo_le x6 1) (qm_LlawOf_766 x5 x6 0 r_185 fm0_on_133 fm0_trump_134 fm0_lead_135 fm0_played_136 fm0_firstWon_137 fm0_secondWon_138 fm0_steps_139 fm0_kind_140 fm0_entered_141 am7401_144 am7402_147 am7403_150 am7404_153 am7405_156 am7406_159 am7407_162 am7408_165 am7409_168 am74010_171 am74011_174 am74012_177 am74013_180 am74014_183 k) (qm_LlawOf_766 x5 x6 16 r_185 fm0_on_133 fm0_trump_134 fm0_lead_135 fm0_played_136 fm0_firstWon_137 fm0_secondWon_138 fm0_steps_139 fm0_kind_140 fm0_entered_141 am7401_144 am7402_147 am7403_150 am7404_153 am7405_156 am7406_159 am7407_162 am7408_165 am7409_168 am74010_171 am74011_174 am74012_177 am74013_180 am74014_183 k)))) false))) false))) false))))
theorem qt_LlawOf_702 {post : Int32 → St0 → Prop} {mc : Nat} {ms : Nat} {kc : Nat} {ks : Nat} {x5_i : Int32} {x5 : Nat} {x6_i : Int32} {x6 : Nat} {z0_i : Int32} {z0 : Nat} {fm0_on : Nat} {fm0_trump : Nat} {fm0_lead : Nat} {fm0_played : Nat} {fm0_firstWon : Nat} {fm0_secondWon : Nat} {fm0_steps : Nat} {fm0_kind : Nat} {fm0_entered : Nat} {am41 : Nat} {am42 : Nat} {am43 : Nat} {am44 : Nat} {am45 : Nat} {am46 : Nat} {am47 : Nat} {am48 : Nat} {am49 : Nat} {am410 : Nat} {am411 : Nat} {am412 : Nat} {am413 : Nat} {am414 : Nat} {k : Nat → Bool} (e_x5 : x5_i = nI x5) (e_x6 : x6_i = nI x6) (e_z0 : z0_i = nI z0) (hk : ∀ r : Nat, k r = true → post (nI r) ()) (h : qm_LlawOf_702 x5 x6 z0 fm0_on fm0_trump fm0_lead fm0_played fm0_firstWon fm0_secondWon fm0_steps fm0_kind fm0_entered am41 am42 am43 am44 am45 am46 am47 am48 am49 am410 am411 am412 am413 am414 k = true) : wL_lawOf_702 post mc ms x5_i x6_i z0_i kc ks (nI fm0_on) (nI fm0_trump) (nI fm0_lead) (nI fm0_played) (nI fm0_firstWon) (nI fm0_secondWon) (nI fm0_steps) (nI fm0_kind) (nI fm0_entered) (qo_ar am41) (qo_ar am42) (qo_ar am43) (qo_ar am44) (qo_ar am45) (qo_ar am46) (qo_ar am47) (qo_ar am48) (qo_ar am49) (qo_ar am410) (qo_ar am411) (qo_ar am412) (qo_aL am413) (qo_ar am414) := by
  subst e_x5
  subst e_x6
  subst e_z0
  unfold qm_LlawOf_702 at h
  unfold wL_lawOf_702
  refine qt_p_deal qo_k0 qo_km1 (fun r_76 fm0_on_77 fm0_trump_78 fm0_lead_79 fm0_played_80 fm0_firstWon_81 fm0_secondWon_82 fm0_steps_83 fm0_kind_84 fm0_entered_85 am7071_88 am7072_91 am7073_94 am7074_97 am7075_100 am7076_103 am7077_106 am7078_109 am7079_112 am70710_115 am70711_118 am70712_121 am70713_124 am70714_127 h => ?_) h
  refine qo_br (qo_i_eq (qo_v z0) qo_k0) h (fun h => ?_) (fun h => ?_)
  · exact qo_no h
  · refine qo_br (qo_i_eq (qo_v r_76) (qo_e_su (qo_e_mu qo_k4 (qo_v x6)) qo_k1)) h (fun h => ?_) (fun h => ?_)
    · refine qt_p_toPlay  (fun r_130 h => ?_) h
      refine qo_br (qo_i_eq (qo_v r_130) qo_km3) h (fun h => ?_) (fun h => ?_)
      · refine qt_p_start qo_k0 qo_k0 (fun r_132 fm0_on_133 fm0_trump_134 fm0_lead_135 fm0_played_136 fm0_firstWon_137 fm0_secondWon_138 fm0_steps_139 fm0_kind_140 fm0_entered_141 am7401_144 am7402_147 am7403_150 am7404_153 am7405_156 am7406_159 am7407_162 am7408_165 am7409_168 am74010_171 am74011_174 am74012_177 am74013_180 am74014_183 h => ?_) h
        refine qo_br (qo_i_eq (qo_v r_132) qo_km4) h (fun h => ?_) (fun h => ?_)
        · refine qt_p_hand (qo_v x5) (fun r_185 h => ?_) h
          refine qo_br (qo_i_le (qo_v x6) qo_k1) h (fun h => ?_) (fun h => ?_)
          · exact qt_LlawOf_766 (qo_v x5) (qo_v x6) qo_k0 (qo_v r_185) hk h
          · exact qt_LlawOf_766 (qo_v x5) (qo_v x6) qo_k16 (qo_v r_185) hk h
        · exact qo_no h
      · exact qo_no h
    · exact qo_no h
noncomputable def qm_LlawOf_679 (x4 x5 x6 z0 z1 fm0_on fm0_trump fm0_lead fm0_played fm0_firstWon fm0_secondWon fm0_steps fm0_kind fm0_entered am6651 am6652 am6653 am6654 am6655 am6656 am6657 am6658 am6659 am66510 am66511 am66512 am66513 am66514 : Nat) (k : Nat → Bool) : Bool := (qo_if (qo_eq z1 z0) (qo_fz (Nat.land (qo_su x4 x5) 3) (fun y_1 => (qm_p_play fm0_on fm0_trump fm0_lead fm0_played fm0_firstWon fm0_secondWon fm0_steps fm0_kind fm0_entered am6651 am6652 am6653 am6654 am6655 am6656 am6657 am6658 am6659 am66510 am66511 am66512 am66513 am66514 y_1 (fun r_618 fm0_on_619 fm0_trump_620 fm0_lead_621 fm0_played_622 fm0_firstWon_623 fm0_secondWon_624 fm0_steps_625 fm0_kind_626 fm0_entered_627 am6901_630 am6902_633 am6903_636 am6904_639 am6905_642 am6906_645 am6907_648 am6908_651 am6909_654 am69010_657 am69011_660 am69012_663 am69013_666 am69014_669 => (qo_if (qo_eq r_618 1) (qm_LlawOf_702 x5 x6 1 fm0_on_619 fm0_trump_620 fm0_lead_621 fm0_played_622 fm0_firstWon_623 fm0_secondWon_624 fm0_steps_625 fm0_kind_626 fm0_entered_627 am6901_630 am6902_633 am6903_636 am6904_639 am6905_642 am6906_645 am6907_648 am6908_651 am6909_654 am69010_657 am69011_660 am69012_663 am69013_666 am69014_669 k) false))))) false)
theorem qt_LlawOf_679 {post : Int32 → St0 → Prop} {mc : Nat} {ms : Nat} {kc : Nat} {ks : Nat} {x4_i : Int32} {x4 : Nat} {x5_i : Int32} {x5 : Nat} {x6_i : Int32} {x6 : Nat} {z0_i : Int32} {z0 : Nat} {z1_i : Int32} {z1 : Nat} {fm0_on : Nat} {fm0_trump : Nat} {fm0_lead : Nat} {fm0_played : Nat} {fm0_firstWon : Nat} {fm0_secondWon : Nat} {fm0_steps : Nat} {fm0_kind : Nat} {fm0_entered : Nat} {am6651 : Nat} {am6652 : Nat} {am6653 : Nat} {am6654 : Nat} {am6655 : Nat} {am6656 : Nat} {am6657 : Nat} {am6658 : Nat} {am6659 : Nat} {am66510 : Nat} {am66511 : Nat} {am66512 : Nat} {am66513 : Nat} {am66514 : Nat} {k : Nat → Bool} (e_x4 : x4_i = nI x4) (e_x5 : x5_i = nI x5) (e_x6 : x6_i = nI x6) (e_z0 : z0_i = nI z0) (e_z1 : z1_i = nI z1) (hk : ∀ r : Nat, k r = true → post (nI r) ()) (h : qm_LlawOf_679 x4 x5 x6 z0 z1 fm0_on fm0_trump fm0_lead fm0_played fm0_firstWon fm0_secondWon fm0_steps fm0_kind fm0_entered am6651 am6652 am6653 am6654 am6655 am6656 am6657 am6658 am6659 am66510 am66511 am66512 am66513 am66514 k = true) : wL_lawOf_679 post mc ms x4_i x5_i x6_i z0_i z1_i kc ks (nI fm0_on) (nI fm0_trump) (nI fm0_lead) (nI fm0_played) (nI fm0_firstWon) (nI fm0_secondWon) (nI fm0_steps) (nI fm0_kind) (nI fm0_entered) (qo_ar am6651) (qo_ar am6652) (qo_ar am6653) (qo_ar am6654) (qo_ar am6655) (qo_ar am6656) (qo_ar am6657) (qo_ar am6658) (qo_ar am6659) (qo_ar am66510) (qo_ar am66511) (qo_ar am66512) (qo_aL am66513) (qo_ar am66514) := by
  subst e_x4
  subst e_x5
  subst e_x6
  subst e_z0
  subst e_z1
  unfold qm_LlawOf_679 at h
  unfold wL_lawOf_679
  refine qo_br (qo_i_eq (qo_v z1) (qo_v z0)) h (fun h => ?_) (fun h => ?_)
  · rw [qo_fz_e] at h
    refine qt_p_play (qo_e_an (qo_e_su (qo_v x4) (qo_v x5)) qo_k3) (fun r_618 fm0_on_619 fm0_trump_620 fm0_lead_621 fm0_played_622 fm0_firstWon_623 fm0_secondWon_624 fm0_steps_625 fm0_kind_626 fm0_entered_627 am6901_630 am6902_633 am6903_636 am6904_639 am6905_642 am6906_645 am6907_648 am6908_651 am6909_654 am69010_657 am69011_660 am69012_663 am69013_666 am69014_669 h => ?_) h
    refine qo_br (qo_i_eq (qo_v r_618) qo_k1) h (fun h => ?_) (fun h => ?_)
    · exact qt_LlawOf_702 (qo_v x5) (qo_v x6) qo_k1 hk h
    · exact qo_no h
  · exact qo_no h
noncomputable def qm_LlawOf_582_s (x4 x5 x6 x9 : Nat) (k : Nat → Bool) (J : Nat → Nat → Nat → Nat → Nat → Nat → Nat → Nat → Nat → Nat → Nat → Nat → Nat → Nat → Nat → Nat → Nat → Nat → Nat → Nat → Nat → Nat → Nat → Nat → Nat → Bool) (x7 x11 fm0_on fm0_trump fm0_lead fm0_played fm0_firstWon fm0_secondWon fm0_steps fm0_kind fm0_entered am41 am42 am43 am44 am45 am46 am47 am48 am49 am410 am411 am412 am413 am414 : Nat) : Bool := (qo_if (qo_le 4 x11) (qo_if (qo_eq x7 0) false (qm_p_undo fm0_on fm0_trump fm0_lead fm0_played fm0_firstWon fm0_secondWon fm0_steps fm0_kind fm0_entered am41 am42 am43 am44 am45 am46 am47 am48 am49 am410 am411 am412 am413 am414 (fun r_456 fm0_on_457 fm0_trump_458 fm0_lead_459 fm0_played_460 fm0_firstWon_461 fm0_secondWon_462 fm0_steps_463 fm0_kind_464 fm0_entered_465 am6351_468 am6352_471 am6353_474 am6354_477 am6355_480 am6356_483 am6357_486 am6358_489 am6359_492 am63510_495 am63511_498 am63512_501 am63513_504 am63514_507 => (qo_if (qo_eq r_456 4294967292) (qm_p_won fm0_on_457 fm0_firstWon_461 fm0_secondWon_462 x9 (fun r_509 => (qo_if (qo_eq r_509 0) (qm_p_start fm0_on_457 fm0_trump_458 fm0_lead_459 fm0_played_460 fm0_firstWon_461 fm0_secondWon_462 fm0_steps_463 fm0_kind_464 fm0_entered_465 am6351_468 am6352_471 am6353_474 am6354_477 am6355_480 am6356_483 am6357_486 am6358_489 am6359_492 am63510_495 am63511_498 am63512_501 am63513_504 am63514_507 x4 0 (fun r_511 fm0_on_512 fm0_trump_513 fm0_lead_514 fm0_played_515 fm0_firstWon_516 fm0_secondWon_517 fm0_steps_518 fm0_kind_519 fm0_entered_520 am6561_523 am6562_526 am6563_529 am6564_532 am6565_535 am6566_538 am6567_541 am6568_544 am6569_547 am65610_550 am65611_553 am65612_556 am65613_559 am65614_562 => (qo_if (qo_eq r_511 x6) (qm_p_value fm0_on_512 fm0_trump_513 fm0_lead_514 fm0_played_515 fm0_firstWon_516 fm0_secondWon_517 fm0_steps_518 fm0_kind_519 fm0_entered_520 am6561_523 am6562_526 am6563_529 am6564_532 am6565_535 am6566_538 am6567_541 am6568_544 am6569_547 am65610_550 am65611_553 am65612_556 am65613_559 am65614_562 (fun r_564 fm0_on_565 fm0_trump_566 fm0_lead_567 fm0_played_568 fm0_firstWon_569 fm0_secondWon_570 fm0_steps_571 fm0_kind_572 fm0_entered_573 am6651_576 am6652_579 am6653_582 am6654_585 am6655_588 am6656_591 am6657_594 am6658_597 am6659_600 am66510_603 am66511_606 am66512_609 am66513_612 am66514_615 => (qo_if (qo_eq x9 0) (qm_LlawOf_679 x4 x5 x6 x6 r_564 fm0_on_565 fm0_trump_566 fm0_lead_567 fm0_played_568 fm0_firstWon_569 fm0_secondWon_570 fm0_steps_571 fm0_kind_572 fm0_entered_573 am6651_576 am6652_579 am6653_582 am6654_585 am6655_588 am6656_591 am6657_594 am6658_597 am6659_600 am66510_603 am66511_606 am66512_609 am66513_612 am66514_615 k) (qm_LlawOf_679 x4 x5 x6 0 r_564 fm0_on_565 fm0_trump_566 fm0_lead_567 fm0_played_568 fm0_firstWon_569 fm0_secondWon_570 fm0_steps_571 fm0_kind_572 fm0_entered_573 am6651_576 am6652_579 am6653_582 am6654_585 am6655_588 am6656_591 am6657_594 am6658_597 am6659_600 am66510_603 am66511_606 am66512_609 am66513_612 am66514_615 k)))) false))) false))) false)))) (qm_p_undo fm0_on fm0_trump fm0_lead fm0_played fm0_firstWon fm0_secondWon fm0_steps fm0_kind fm0_entered am41 am42 am43 am44 am45 am46 am47 am48 am49 am410 am411 am412 am413 am414 (fun r_671 fm0_on_672 fm0_trump_673 fm0_lead_674 fm0_played_675 fm0_firstWon_676 fm0_secondWon_677 fm0_steps_678 fm0_kind_679 fm0_entered_680 am5891_683 am5892_686 am5893_689 am5894_692 am5895_695 am5896_698 am5897_701 am5898_704 am5899_707 am58910_710 am58911_713 am58912_716 am58913_719 am58914_722 => (qo_if (qo_eq x7 0) false (qo_if (qo_eq r_671 (Nat.land (qo_su (qo_su (qo_ad x4 3) x11) x5) 3)) (qo_fz (qo_ad x11 1) (fun x11_727 => (J 1 x11_727 fm0_on_672 fm0_trump_673 fm0_lead_674 fm0_played_675 fm0_firstWon_676 fm0_secondWon_677 fm0_steps_678 fm0_kind_679 fm0_entered_680 am5891_683 am5892_686 am5893_689 am5894_692 am5895_695 am5896_698 am5897_701 am5898_704 am5899_707 am58910_710 am58911_713 am58912_716 am58913_719 am58914_722))) false)))))
noncomputable def qm_LlawOf_582 (x4 x5 x6 x9 : Nat) (k : Nat → Bool) (n : Nat) : Nat → Nat → Nat → Nat → Nat → Nat → Nat → Nat → Nat → Nat → Nat → Nat → Nat → Nat → Nat → Nat → Nat → Nat → Nat → Nat → Nat → Nat → Nat → Nat → Nat → Bool := Nat.rec (motive := fun _ => Nat → Nat → Nat → Nat → Nat → Nat → Nat → Nat → Nat → Nat → Nat → Nat → Nat → Nat → Nat → Nat → Nat → Nat → Nat → Nat → Nat → Nat → Nat → Nat → Nat → Bool) (fun _ _ _ _ _ _ _ _ _ _ _ _ _ _ _ _ _ _ _ _ _ _ _ _ _ => false) (fun _ J => qm_LlawOf_582_s x4 x5 x6 x9 k J) n
theorem qt_LlawOf_582 {post : Int32 → St0 → Prop} {mc : Nat} {ms : Nat} {kc : Nat} {ks : Nat} {x4_i : Int32} {x4 : Nat} {x5_i : Int32} {x5 : Nat} {x6_i : Int32} {x6 : Nat} {x9_i : Int32} {x9 : Nat} {k : Nat → Bool} (e_x4 : x4_i = nI x4) (e_x5 : x5_i = nI x5) (e_x6 : x6_i = nI x6) (e_x9 : x9_i = nI x9) (hk : ∀ r : Nat, k r = true → post (nI r) ()) : ∀ (n : Nat) {x7_i : Int32} {x7 : Nat} {x11_i : Int32} {x11 : Nat} {fm0_on : Nat} {fm0_trump : Nat} {fm0_lead : Nat} {fm0_played : Nat} {fm0_firstWon : Nat} {fm0_secondWon : Nat} {fm0_steps : Nat} {fm0_kind : Nat} {fm0_entered : Nat} {am41 : Nat} {am42 : Nat} {am43 : Nat} {am44 : Nat} {am45 : Nat} {am46 : Nat} {am47 : Nat} {am48 : Nat} {am49 : Nat} {am410 : Nat} {am411 : Nat} {am412 : Nat} {am413 : Nat} {am414 : Nat} (e_x7 : x7_i = nI x7) (e_x11 : x11_i = nI x11), qm_LlawOf_582 x4 x5 x6 x9 k n x7 x11 fm0_on fm0_trump fm0_lead fm0_played fm0_firstWon fm0_secondWon fm0_steps fm0_kind fm0_entered am41 am42 am43 am44 am45 am46 am47 am48 am49 am410 am411 am412 am413 am414 = true → wL_lawOf_582 post mc ms x4_i x5_i x6_i x9_i kc ks n x7_i x11_i (nI fm0_on) (nI fm0_trump) (nI fm0_lead) (nI fm0_played) (nI fm0_firstWon) (nI fm0_secondWon) (nI fm0_steps) (nI fm0_kind) (nI fm0_entered) (qo_ar am41) (qo_ar am42) (qo_ar am43) (qo_ar am44) (qo_ar am45) (qo_ar am46) (qo_ar am47) (qo_ar am48) (qo_ar am49) (qo_ar am410) (qo_ar am411) (qo_ar am412) (qo_aL am413) (qo_ar am414) := by
  subst e_x4
  subst e_x5
  subst e_x6
  subst e_x9
  intro n
  induction n with
  | zero =>
    intros
    exact qo_no (by assumption)
  | succ n ih =>
    intro x7_i x7 x11_i x11 fm0_on fm0_trump fm0_lead fm0_played fm0_firstWon fm0_secondWon fm0_steps fm0_kind fm0_entered am41 am42 am43 am44 am45 am46 am47 am48 am49 am410 am411 am412 am413 am414 e_x7 e_x11 h
    subst e_x7
    subst e_x11
    replace h : qm_LlawOf_582_s x4 x5 x6 x9 k (qm_LlawOf_582 x4 x5 x6 x9 k n) x7 x11 fm0_on fm0_trump fm0_lead fm0_played fm0_firstWon fm0_secondWon fm0_steps fm0_kind fm0_entered am41 am42 am43 am44 am45 am46 am47 am48 am49 am410 am411 am412 am413 am414 = true := h
    unfold qm_LlawOf_582_s at h
    refine qo_br (qo_i_le qo_k4 (qo_v x11)) h (fun h => ?_) (fun h => ?_)
    · refine qo_br (qo_i_eq (qo_v x7) qo_k0) h (fun h => ?_) (fun h => ?_)
      · exact qo_no h
      · refine qt_p_undo  (fun r_456 fm0_on_457 fm0_trump_458 fm0_lead_459 fm0_played_460 fm0_firstWon_461 fm0_secondWon_462 fm0_steps_463 fm0_kind_464 fm0_entered_465 am6351_468 am6352_471 am6353_474 am6354_477 am6355_480 am6356_483 am6357_486 am6358_489 am6359_492 am63510_495 am63511_498 am63512_501 am63513_504 am63514_507 h => ?_) h
        refine qo_br (qo_i_eq (qo_v r_456) qo_km4) h (fun h => ?_) (fun h => ?_)
        · refine qt_p_won (qo_v x9) (fun r_509 h => ?_) h
          refine qo_br (qo_i_eq (qo_v r_509) qo_k0) h (fun h => ?_) (fun h => ?_)
          · refine qt_p_start (qo_v x4) qo_k0 (fun r_511 fm0_on_512 fm0_trump_513 fm0_lead_514 fm0_played_515 fm0_firstWon_516 fm0_secondWon_517 fm0_steps_518 fm0_kind_519 fm0_entered_520 am6561_523 am6562_526 am6563_529 am6564_532 am6565_535 am6566_538 am6567_541 am6568_544 am6569_547 am65610_550 am65611_553 am65612_556 am65613_559 am65614_562 h => ?_) h
            refine qo_br (qo_i_eq (qo_v r_511) (qo_v x6)) h (fun h => ?_) (fun h => ?_)
            · refine qt_p_value  (fun r_564 fm0_on_565 fm0_trump_566 fm0_lead_567 fm0_played_568 fm0_firstWon_569 fm0_secondWon_570 fm0_steps_571 fm0_kind_572 fm0_entered_573 am6651_576 am6652_579 am6653_582 am6654_585 am6655_588 am6656_591 am6657_594 am6658_597 am6659_600 am66510_603 am66511_606 am66512_609 am66513_612 am66514_615 h => ?_) h
              refine qo_br (qo_i_eq (qo_v x9) qo_k0) h (fun h => ?_) (fun h => ?_)
              · exact qt_LlawOf_679 (qo_v x4) (qo_v x5) (qo_v x6) (qo_v x6) (qo_v r_564) hk h
              · exact qt_LlawOf_679 (qo_v x4) (qo_v x5) (qo_v x6) qo_k0 (qo_v r_564) hk h
            · exact qo_no h
          · exact qo_no h
        · exact qo_no h
    · refine qt_p_undo  (fun r_671 fm0_on_672 fm0_trump_673 fm0_lead_674 fm0_played_675 fm0_firstWon_676 fm0_secondWon_677 fm0_steps_678 fm0_kind_679 fm0_entered_680 am5891_683 am5892_686 am5893_689 am5894_692 am5895_695 am5896_698 am5897_701 am5898_704 am5899_707 am58910_710 am58911_713 am58912_716 am58913_719 am58914_722 h => ?_) h
      refine qo_br (qo_i_eq (qo_v x7) qo_k0) h (fun h => ?_) (fun h => ?_)
      · exact qo_no h
      · refine qo_br (qo_i_eq (qo_v r_671) (qo_e_an (qo_e_su (qo_e_su (qo_e_ad (qo_v x4) qo_k3) (qo_v x11)) (qo_v x5)) qo_k3)) h (fun h => ?_) (fun h => ?_)
        · refine qo_nm (qo_e_ad (qo_v x11) qo_k1) h (fun x11_727 h => ?_)
          exact ih qo_k1 (qo_v x11_727) h
        · exact qo_no h
noncomputable def qm_LlawOf_560 (x4 x5 x6 x9 z0 z1 fm0_on fm0_trump fm0_lead fm0_played fm0_firstWon fm0_secondWon fm0_steps fm0_kind fm0_entered am41 am42 am43 am44 am45 am46 am47 am48 am49 am410 am411 am412 am413 am414 : Nat) (k : Nat → Bool) : Bool := (qo_if (qo_eq z1 z0) (qm_p_won fm0_on fm0_firstWon fm0_secondWon 2 (fun r_737 => (qo_if (qo_eq r_737 4294967295) (qm_LlawOf_582 x4 x5 x6 x9 k 5 1 0 fm0_on fm0_trump fm0_lead fm0_played fm0_firstWon fm0_secondWon fm0_steps fm0_kind fm0_entered am41 am42 am43 am44 am45 am46 am47 am48 am49 am410 am411 am412 am413 am414) false))) false)
theorem qt_LlawOf_560 {post : Int32 → St0 → Prop} {mc : Nat} {ms : Nat} {kc : Nat} {ks : Nat} {x4_i : Int32} {x4 : Nat} {x5_i : Int32} {x5 : Nat} {x6_i : Int32} {x6 : Nat} {x9_i : Int32} {x9 : Nat} {z0_i : Int32} {z0 : Nat} {z1_i : Int32} {z1 : Nat} {fm0_on : Nat} {fm0_trump : Nat} {fm0_lead : Nat} {fm0_played : Nat} {fm0_firstWon : Nat} {fm0_secondWon : Nat} {fm0_steps : Nat} {fm0_kind : Nat} {fm0_entered : Nat} {am41 : Nat} {am42 : Nat} {am43 : Nat} {am44 : Nat} {am45 : Nat} {am46 : Nat} {am47 : Nat} {am48 : Nat} {am49 : Nat} {am410 : Nat} {am411 : Nat} {am412 : Nat} {am413 : Nat} {am414 : Nat} {k : Nat → Bool} (e_x4 : x4_i = nI x4) (e_x5 : x5_i = nI x5) (e_x6 : x6_i = nI x6) (e_x9 : x9_i = nI x9) (e_z0 : z0_i = nI z0) (e_z1 : z1_i = nI z1) (hk : ∀ r : Nat, k r = true → post (nI r) ()) (h : qm_LlawOf_560 x4 x5 x6 x9 z0 z1 fm0_on fm0_trump fm0_lead fm0_played fm0_firstWon fm0_secondWon fm0_steps fm0_kind fm0_entered am41 am42 am43 am44 am45 am46 am47 am48 am49 am410 am411 am412 am413 am414 k = true) : wL_lawOf_560 post mc ms x4_i x5_i x6_i x9_i z0_i z1_i kc ks (nI fm0_on) (nI fm0_trump) (nI fm0_lead) (nI fm0_played) (nI fm0_firstWon) (nI fm0_secondWon) (nI fm0_steps) (nI fm0_kind) (nI fm0_entered) (qo_ar am41) (qo_ar am42) (qo_ar am43) (qo_ar am44) (qo_ar am45) (qo_ar am46) (qo_ar am47) (qo_ar am48) (qo_ar am49) (qo_ar am410) (qo_ar am411) (qo_ar am412) (qo_aL am413) (qo_ar am414) := by
  subst e_x4
  subst e_x5
  subst e_x6
  subst e_x9
  subst e_z0
  subst e_z1
  unfold qm_LlawOf_560 at h
  unfold wL_lawOf_560
  refine qo_br (qo_i_eq (qo_v z1) (qo_v z0)) h (fun h => ?_) (fun h => ?_)
  · refine qt_p_won qo_k2 (fun r_737 h => ?_) h
    refine qo_br (qo_i_eq (qo_v r_737) qo_km1) h (fun h => ?_) (fun h => ?_)
    · exact ⟨5, qt_LlawOf_582 (qo_v x4) (qo_v x5) (qo_v x6) (qo_v x9) hk _ qo_k1 qo_k0 h⟩
    · exact qo_no h
  · exact qo_no h
noncomputable def qm_LlawOf_491 (x11 z0 z1 z2 fm0_on fm0_trump fm0_lead fm0_played fm0_firstWon fm0_secondWon fm0_steps fm0_kind fm0_entered am4441 am4442 am4443 am4444 am4445 am4446 am4447 am4448 am4449 am44410 am44411 am44412 am44413 am44414 : Nat) (J357 : Nat → Nat → Nat → Nat → Nat → Nat → Nat → Nat → Nat → Nat → Nat → Nat → Nat → Nat → Nat → Nat → Nat → Nat → Nat → Nat → Nat → Nat → Nat → Nat → Nat → Bool) : Bool := (qo_if (qo_eq z2 (Nat.lor z1 z0)) (qo_fz (qo_ad x11 1) (fun x11_968 => (J357 1 x11_968 fm0_on fm0_trump fm0_lead fm0_played fm0_firstWon fm0_secondWon fm0_steps fm0_kind fm0_entered am4441 am4442 am4443 am4444 am4445 am4446 am4447 am4448 am4449 am44410 am44411 am44412 am44413 am44414))) false)
theorem qt_LlawOf_491 {post : Int32 → St0 → Prop} {mc : Nat} {ms : Nat} {kc : Nat} {ks : Nat} {J357 : Int32 → Int32 → Int32 → Int32 → Int32 → Int32 → Int32 → Int32 → Int32 → Int32 → Int32 → ( Nat → Int32 ) → ( Nat → Int32 ) → ( Nat → Int32 ) → ( Nat → Int32 ) → ( Nat → Int32 ) → ( Nat → Int32 ) → ( Nat → Int32 ) → ( Nat → Int32 ) → ( Nat → Int32 ) → ( Nat → Int32 ) → ( Nat → Int32 ) → ( Nat → Int32 ) → ( Nat → Int64 ) → ( Nat → Int32 ) → Prop} {x4 : Int32} {x5 : Int32} {x6 : Int32} {x8 : Int32} {x9 : Int32} {x11_i : Int32} {x11 : Nat} {z0_i : Int32} {z0 : Nat} {z1_i : Int32} {z1 : Nat} {z2_i : Int32} {z2 : Nat} {fm0_on : Nat} {fm0_trump : Nat} {fm0_lead : Nat} {fm0_played : Nat} {fm0_firstWon : Nat} {fm0_secondWon : Nat} {fm0_steps : Nat} {fm0_kind : Nat} {fm0_entered : Nat} {am4441 : Nat} {am4442 : Nat} {am4443 : Nat} {am4444 : Nat} {am4445 : Nat} {am4446 : Nat} {am4447 : Nat} {am4448 : Nat} {am4449 : Nat} {am44410 : Nat} {am44411 : Nat} {am44412 : Nat} {am44413 : Nat} {am44414 : Nat} {J357' : Nat → Nat → Nat → Nat → Nat → Nat → Nat → Nat → Nat → Nat → Nat → Nat → Nat → Nat → Nat → Nat → Nat → Nat → Nat → Nat → Nat → Nat → Nat → Nat → Nat → Bool} (e_x11 : x11_i = nI x11) (e_z0 : z0_i = nI z0) (e_z1 : z1_i = nI z1) (e_z2 : z2_i = nI z2) (hJ357 : ∀ (w0 w1 w2 w3 w4 w5 w6 w7 w8 w9 w10 w11 w12 w13 w14 w15 w16 w17 w18 w19 w20 w21 w22 w23 w24 : Nat) , J357' w0 w1 w2 w3 w4 w5 w6 w7 w8 w9 w10 w11 w12 w13 w14 w15 w16 w17 w18 w19 w20 w21 w22 w23 w24 = true → J357 (nI w0) (nI w1) (nI w2) (nI w3) (nI w4) (nI w5) (nI w6) (nI w7) (nI w8) (nI w9) (nI w10) (qo_ar w11) (qo_ar w12) (qo_ar w13) (qo_ar w14) (qo_ar w15) (qo_ar w16) (qo_ar w17) (qo_ar w18) (qo_ar w19) (qo_ar w20) (qo_ar w21) (qo_ar w22) (qo_aL w23) (qo_ar w24)) (h : qm_LlawOf_491 x11 z0 z1 z2 fm0_on fm0_trump fm0_lead fm0_played fm0_firstWon fm0_secondWon fm0_steps fm0_kind fm0_entered am4441 am4442 am4443 am4444 am4445 am4446 am4447 am4448 am4449 am44410 am44411 am44412 am44413 am44414 J357' = true) : wL_lawOf_491 post mc ms J357 x4 x5 x6 x8 x9 x11_i z0_i z1_i z2_i kc ks (nI fm0_on) (nI fm0_trump) (nI fm0_lead) (nI fm0_played) (nI fm0_firstWon) (nI fm0_secondWon) (nI fm0_steps) (nI fm0_kind) (nI fm0_entered) (qo_ar am4441) (qo_ar am4442) (qo_ar am4443) (qo_ar am4444) (qo_ar am4445) (qo_ar am4446) (qo_ar am4447) (qo_ar am4448) (qo_ar am4449) (qo_ar am44410) (qo_ar am44411) (qo_ar am44412) (qo_aL am44413) (qo_ar am44414) := by
  subst e_x11
  subst e_z0
  subst e_z1
  subst e_z2
  unfold qm_LlawOf_491 at h
  unfold wL_lawOf_491
  refine qo_br (qo_i_eq (qo_v z2) (qo_e_or (qo_v z1) (qo_v z0))) h (fun h => ?_) (fun h => ?_)
  · refine qo_nm (qo_e_ad (qo_v x11) qo_k1) h (fun x11_968 h => ?_)
    exact hJ357 1 x11_968 fm0_on fm0_trump fm0_lead fm0_played fm0_firstWon fm0_secondWon fm0_steps fm0_kind fm0_entered am4441 am4442 am4443 am4444 am4445 am4446 am4447 am4448 am4449 am44410 am44411 am44412 am44413 am44414 h
  · exact qo_no h
noncomputable def qm_LlawOf_475 (x6 x11 x13 z0 z1 fm0_on fm0_trump fm0_lead fm0_played fm0_firstWon fm0_secondWon fm0_steps fm0_kind fm0_entered am4441 am4442 am4443 am4444 am4445 am4446 am4447 am4448 am4449 am44410 am44411 am44412 am44413 am44414 : Nat) (J357 : Nat → Nat → Nat → Nat → Nat → Nat → Nat → Nat → Nat → Nat → Nat → Nat → Nat → Nat → Nat → Nat → Nat → Nat → Nat → Nat → Nat → Nat → Nat → Nat → Nat → Bool) : Bool := (qo_if (qo_eq x6 3) (qo_fz (qo_sl 256 x13) (fun y_1 => (qm_LlawOf_491 x11 y_1 z0 z1 fm0_on fm0_trump fm0_lead fm0_played fm0_firstWon fm0_secondWon fm0_steps fm0_kind fm0_entered am4441 am4442 am4443 am4444 am4445 am4446 am4447 am4448 am4449 am44410 am44411 am44412 am44413 am44414 J357))) (qm_LlawOf_491 x11 0 z0 z1 fm0_on fm0_trump fm0_lead fm0_played fm0_firstWon fm0_secondWon fm0_steps fm0_kind fm0_entered am4441 am4442 am4443 am4444 am4445 am4446 am4447 am4448 am4449 am44410 am44411 am44412 am44413 am44414 J357))
theorem qt_LlawOf_475 {post : Int32 → St0 → Prop} {mc : Nat} {ms : Nat} {kc : Nat} {ks : Nat} {J357 : Int32 → Int32 → Int32 → Int32 → Int32 → Int32 → Int32 → Int32 → Int32 → Int32 → Int32 → ( Nat → Int32 ) → ( Nat → Int32 ) → ( Nat → Int32 ) → ( Nat → Int32 ) → ( Nat → Int32 ) → ( Nat → Int32 ) → ( Nat → Int32 ) → ( Nat → Int32 ) → ( Nat → Int32 ) → ( Nat → Int32 ) → ( Nat → Int32 ) → ( Nat → Int32 ) → ( Nat → Int64 ) → ( Nat → Int32 ) → Prop} {x4 : Int32} {x5 : Int32} {x6_i : Int32} {x6 : Nat} {x8 : Int32} {x9 : Int32} {x11_i : Int32} {x11 : Nat} {x13_i : Int32} {x13 : Nat} {z0_i : Int32} {z0 : Nat} {z1_i : Int32} {z1 : Nat} {fm0_on : Nat} {fm0_trump : Nat} {fm0_lead : Nat} {fm0_played : Nat} {fm0_firstWon : Nat} {fm0_secondWon : Nat} {fm0_steps : Nat} {fm0_kind : Nat} {fm0_entered : Nat} {am4441 : Nat} {am4442 : Nat} {am4443 : Nat} {am4444 : Nat} {am4445 : Nat} {am4446 : Nat} {am4447 : Nat} {am4448 : Nat} {am4449 : Nat} {am44410 : Nat} {am44411 : Nat} {am44412 : Nat} {am44413 : Nat} {am44414 : Nat} {J357' : Nat → Nat → Nat → Nat → Nat → Nat → Nat → Nat → Nat → Nat → Nat → Nat → Nat → Nat → Nat → Nat → Nat → Nat → Nat → Nat → Nat → Nat → Nat → Nat → Nat → Bool} (e_x6 : x6_i = nI x6) (e_x11 : x11_i = nI x11) (e_x13 : x13_i = nI x13) (e_z0 : z0_i = nI z0) (e_z1 : z1_i = nI z1) (hJ357 : ∀ (w0 w1 w2 w3 w4 w5 w6 w7 w8 w9 w10 w11 w12 w13 w14 w15 w16 w17 w18 w19 w20 w21 w22 w23 w24 : Nat) , J357' w0 w1 w2 w3 w4 w5 w6 w7 w8 w9 w10 w11 w12 w13 w14 w15 w16 w17 w18 w19 w20 w21 w22 w23 w24 = true → J357 (nI w0) (nI w1) (nI w2) (nI w3) (nI w4) (nI w5) (nI w6) (nI w7) (nI w8) (nI w9) (nI w10) (qo_ar w11) (qo_ar w12) (qo_ar w13) (qo_ar w14) (qo_ar w15) (qo_ar w16) (qo_ar w17) (qo_ar w18) (qo_ar w19) (qo_ar w20) (qo_ar w21) (qo_ar w22) (qo_aL w23) (qo_ar w24)) (h : qm_LlawOf_475 x6 x11 x13 z0 z1 fm0_on fm0_trump fm0_lead fm0_played fm0_firstWon fm0_secondWon fm0_steps fm0_kind fm0_entered am4441 am4442 am4443 am4444 am4445 am4446 am4447 am4448 am4449 am44410 am44411 am44412 am44413 am44414 J357' = true) : wL_lawOf_475 post mc ms J357 x4 x5 x6_i x8 x9 x11_i x13_i z0_i z1_i kc ks (nI fm0_on) (nI fm0_trump) (nI fm0_lead) (nI fm0_played) (nI fm0_firstWon) (nI fm0_secondWon) (nI fm0_steps) (nI fm0_kind) (nI fm0_entered) (qo_ar am4441) (qo_ar am4442) (qo_ar am4443) (qo_ar am4444) (qo_ar am4445) (qo_ar am4446) (qo_ar am4447) (qo_ar am4448) (qo_ar am4449) (qo_ar am44410) (qo_ar am44411) (qo_ar am44412) (qo_aL am44413) (qo_ar am44414) := by
  subst e_x6
  subst e_x11
  subst e_x13
  subst e_z0
  subst e_z1
  unfold qm_LlawOf_475 at h
  unfold wL_lawOf_475
  refine qo_br (qo_i_eq (qo_v x6) qo_k3) h (fun h => ?_) (fun h => ?_)
  · rw [qo_fz_e] at h
    exact qt_LlawOf_491 (qo_v x11) (qo_e_sl qo_k256 (qo_v x13)) (qo_v z0) (qo_v z1) hJ357 h
  · exact qt_LlawOf_491 (qo_v x11) qo_k0 (qo_v z0) (qo_v z1) hJ357 h
noncomputable def qm_LlawOf_438 (x6 x11 x12 x13 z0 z1 fm0_on fm0_trump fm0_lead fm0_played fm0_firstWon fm0_secondWon fm0_steps fm0_kind fm0_entered am4241 am4242 am4243 am4244 am4245 am4246 am4247 am4248 am4249 am42410 am42411 am42412 am42413 am42414 : Nat) (J357 : Nat → Nat → Nat → Nat → Nat → Nat → Nat → Nat → Nat → Nat → Nat → Nat → Nat → Nat → Nat → Nat → Nat → Nat → Nat → Nat → Nat → Nat → Nat → Nat → Nat → Bool) : Bool := (qo_if (qo_eq z1 z0) (qm_p_play fm0_on fm0_trump fm0_lead fm0_played fm0_firstWon fm0_secondWon fm0_steps fm0_kind fm0_entered am4241 am4242 am4243 am4244 am4245 am4246 am4247 am4248 am4249 am42410 am42411 am42412 am42413 am42414 x13 (fun r_909 fm0_on_910 fm0_trump_911 fm0_lead_912 fm0_played_913 fm0_firstWon_914 fm0_secondWon_915 fm0_steps_916 fm0_kind_917 fm0_entered_918 am4441_921 am4442_924 am4443_927 am4444_930 am4445_933 am4446_936 am4447_939 am4448_942 am4449_945 am44410_948 am44411_951 am44412_954 am44413_957 am44414_960 => (qo_if (qo_eq r_909 (qo_ad x11 1)) (qm_p_hand am4442_924 x12 (fun r_963 => (qo_if (qo_eq x6 1) (qm_LlawOf_475 x6 x11 x13 0 r_963 fm0_on_910 fm0_trump_911 fm0_lead_912 fm0_played_913 fm0_firstWon_914 fm0_secondWon_915 fm0_steps_916 fm0_kind_917 fm0_entered_918 am4441_921 am4442_924 am4443_927 am4444_930 am4445_933 am4446_936 am4447_939 am4448_942 am4449_945 am44410_948 am44411_951 am44412_954 am44413_957 am44414_960 J357) (qo_fz (qo_sl 16 x13) (fun y_1 => (qm_LlawOf_475 x6 x11 x13 y_1 r_963 fm0_on_910 fm0_trump_911 fm0_lead_912 fm0_played_913 fm0_firstWon_914 fm0_secondWon_915 fm0_steps_916 fm0_kind_917 fm0_entered_918 am4441_921 am4442_924 am4443_927 am4444_930 am4445_933 am4446_936 am4447_939 am4448_942 am4449_945 am44410_948 am44411_951 am44412_954 am44413_957 am44414_960 J357)))))) false))) false)
theorem qt_LlawOf_438 {post : Int32 → St0 → Prop} {mc : Nat} {ms : Nat} {kc : Nat} {ks : Nat} {J357 : Int32 → Int32 → Int32 → Int32 → Int32 → Int32 → Int32 → Int32 → Int32 → Int32 → Int32 → ( Nat → Int32 ) → ( Nat → Int32 ) → ( Nat → Int32 ) → ( Nat → Int32 ) → ( Nat → Int32 ) → ( Nat → Int32 ) → ( Nat → Int32 ) → ( Nat → Int32 ) → ( Nat → Int32 ) → ( Nat → Int32 ) → ( Nat → Int32 ) → ( Nat → Int32 ) → ( Nat → Int64 ) → ( Nat → Int32 ) → Prop} {x4 : Int32} {x5 : Int32} {x6_i : Int32} {x6 : Nat} {x8 : Int32} {x9 : Int32} {x11_i : Int32} {x11 : Nat} {x12_i : Int32} {x12 : Nat} {x13_i : Int32} {x13 : Nat} {z0_i : Int32} {z0 : Nat} {z1_i : Int32} {z1 : Nat} {fm0_on : Nat} {fm0_trump : Nat} {fm0_lead : Nat} {fm0_played : Nat} {fm0_firstWon : Nat} {fm0_secondWon : Nat} {fm0_steps : Nat} {fm0_kind : Nat} {fm0_entered : Nat} {am4241 : Nat} {am4242 : Nat} {am4243 : Nat} {am4244 : Nat} {am4245 : Nat} {am4246 : Nat} {am4247 : Nat} {am4248 : Nat} {am4249 : Nat} {am42410 : Nat} {am42411 : Nat} {am42412 : Nat} {am42413 : Nat} {am42414 : Nat} {J357' : Nat → Nat → Nat → Nat → Nat → Nat → Nat → Nat → Nat → Nat → Nat → Nat → Nat → Nat → Nat → Nat → Nat → Nat → Nat → Nat → Nat → Nat → Nat → Nat → Nat → Bool} (e_x6 : x6_i = nI x6) (e_x11 : x11_i = nI x11) (e_x12 : x12_i = nI x12) (e_x13 : x13_i = nI x13) (e_z0 : z0_i = nI z0) (e_z1 : z1_i = nI z1) (hJ357 : ∀ (w0 w1 w2 w3 w4 w5 w6 w7 w8 w9 w10 w11 w12 w13 w14 w15 w16 w17 w18 w19 w20 w21 w22 w23 w24 : Nat) , J357' w0 w1 w2 w3 w4 w5 w6 w7 w8 w9 w10 w11 w12 w13 w14 w15 w16 w17 w18 w19 w20 w21 w22 w23 w24 = true → J357 (nI w0) (nI w1) (nI w2) (nI w3) (nI w4) (nI w5) (nI w6) (nI w7) (nI w8) (nI w9) (nI w10) (qo_ar w11) (qo_ar w12) (qo_ar w13) (qo_ar w14) (qo_ar w15) (qo_ar w16) (qo_ar w17) (qo_ar w18) (qo_ar w19) (qo_ar w20) (qo_ar w21) (qo_ar w22) (qo_aL w23) (qo_ar w24)) (h : qm_LlawOf_438 x6 x11 x12 x13 z0 z1 fm0_on fm0_trump fm0_lead fm0_played fm0_firstWon fm0_secondWon fm0_steps fm0_kind fm0_entered am4241 am4242 am4243 am4244 am4245 am4246 am4247 am4248 am4249 am42410 am42411 am42412 am42413 am42414 J357' = true) : wL_lawOf_438 post mc ms J357 x4 x5 x6_i x8 x9 x11_i x12_i x13_i z0_i z1_i kc ks (nI fm0_on) (nI fm0_trump) (nI fm0_lead) (nI fm0_played) (nI fm0_firstWon) (nI fm0_secondWon) (nI fm0_steps) (nI fm0_kind) (nI fm0_entered) (qo_ar am4241) (qo_ar am4242) (qo_ar am4243) (qo_ar am4244) (qo_ar am4245) (qo_ar am4246) (qo_ar am4247) (qo_ar am4248) (qo_ar am4249) (qo_ar am42410) (qo_ar am42411) (qo_ar am42412) (qo_aL am42413) (qo_ar am42414) := by
  subst e_x6
  subst e_x11
  subst e_x12
  subst e_x13
  subst e_z0
  subst e_z1
  unfold qm_LlawOf_438 at h
  unfold wL_lawOf_438
  refine qo_br (qo_i_eq (qo_v z1) (qo_v z0)) h (fun h => ?_) (fun h => ?_)
  · refine qt_p_play (qo_v x13) (fun r_909 fm0_on_910 fm0_trump_911 fm0_lead_912 fm0_played_913 fm0_firstWon_914 fm0_secondWon_915 fm0_steps_916 fm0_kind_917 fm0_entered_918 am4441_921 am4442_924 am4443_927 am4444_930 am4445_933 am4446_936 am4447_939 am4448_942 am4449_945 am44410_948 am44411_951 am44412_954 am44413_957 am44414_960 h => ?_) h
    refine qo_br (qo_i_eq (qo_v r_909) (qo_e_ad (qo_v x11) qo_k1)) h (fun h => ?_) (fun h => ?_)
    · refine qt_p_hand (qo_v x12) (fun r_963 h => ?_) h
      refine qo_br (qo_i_eq (qo_v x6) qo_k1) h (fun h => ?_) (fun h => ?_)
      · exact qt_LlawOf_475 (qo_v x6) (qo_v x11) (qo_v x13) qo_k0 (qo_v r_963) hJ357 h
      · rw [qo_fz_e] at h
        exact qt_LlawOf_475 (qo_v x6) (qo_v x11) (qo_v x13) (qo_e_sl qo_k16 (qo_v x13)) (qo_v r_963) hJ357 h
    · exact qo_no h
  · exact qo_no h
noncomputable def qm_LlawOf_357_s (x4 x5 x6 x8 x9 : Nat) (k : Nat → Bool) (J : Nat → Nat → Nat → Nat → Nat → Nat → Nat → Nat → Nat → Nat → Nat → Nat → Nat → Nat → Nat → Nat → Nat → Nat → Nat → Nat → Nat → Nat → Nat → Nat → Nat → Bool) (x7 x11 fm0_on fm0_trump fm0_lead fm0_played fm0_firstWon fm0_secondWon fm0_steps fm0_kind fm0_entered am41 am42 am43 am44 am45 am46 am47 am48 am49 am410 am411 am412 am413 am414 : Nat) : Bool := (qo_if (qo_le 4 x11) (qo_if (qo_eq x7 0) false (qm_p_won fm0_on fm0_firstWon fm0_secondWon x9 (fun r_728 => (qo_if (qo_eq r_728 1) (qo_fz (qo_su 1 x9) (fun y_1 => (qm_p_won fm0_on fm0_firstWon fm0_secondWon y_1 (fun r_730 => (qo_if (qo_eq r_730 0) (qm_p_winning fm0_on fm0_trump fm0_lead fm0_played am43 (fun r_732 => (qo_if (qo_eq r_732 4294967292) (qm_p_toPlay fm0_on fm0_lead fm0_played am42 (fun r_734 => (qo_if (qo_eq x6 1) (qm_LlawOf_560 x4 x5 x6 x9 4294967292 r_734 fm0_on fm0_trump fm0_lead fm0_played fm0_firstWon fm0_secondWon fm0_steps fm0_kind fm0_entered am41 am42 am43 am44 am45 am46 am47 am48 am49 am410 am411 am412 am413 am414 k) (qm_LlawOf_560 x4 x5 x6 x9 x8 r_734 fm0_on fm0_trump fm0_lead fm0_played fm0_firstWon fm0_secondWon fm0_steps fm0_kind fm0_entered am41 am42 am43 am44 am45 am46 am47 am48 am49 am410 am411 am412 am413 am414 k)))) false))) false))))) false)))) (qo_fz (Nat.land (qo_ad x4 x11) 3) (fun x12_739 => (qo_fz (Nat.land (qo_su x12_739 x5) 3) (fun x13_740 => (qo_if (qo_eq x7 0) false (qm_p_toPlay fm0_on fm0_lead fm0_played am42 (fun r_743 => (qo_if (qo_eq r_743 x12_739) (qo_fz (Nat.land (qo_ad x13_740 1) 3) (fun y_2 => (qm_p_play fm0_on fm0_trump fm0_lead fm0_played fm0_firstWon fm0_secondWon fm0_steps fm0_kind fm0_entered am41 am42 am43 am44 am45 am46 am47 am48 am49 am410 am411 am412 am413 am414 y_2 (fun r_746 fm0_on_747 fm0_trump_748 fm0_lead_749 fm0_played_750 fm0_firstWon_751 fm0_secondWon_752 fm0_steps_753 fm0_kind_754 fm0_entered_755 am4021_758 am4022_761 am4023_764 am4024_767 am4025_770 am4026_773 am4027_776 am4028_779 am4029_782 am40210_785 am40211_788 am40212_791 am40213_794 am40214_797 => (qo_if (qo_eq r_746 4294967292) (qm_p_play fm0_on_747 fm0_trump_748 fm0_lead_749 fm0_played_750 fm0_firstWon_751 fm0_secondWon_752 fm0_steps_753 fm0_kind_754 fm0_entered_755 am4021_758 am4022_761 am4023_764 am4024_767 am4025_770 am4026_773 am4027_776 am4028_779 am4029_782 am40210_785 am40211_788 am40212_791 am40213_794 am40214_797 12 (fun r_800 fm0_on_801 fm0_trump_802 fm0_lead_803 fm0_played_804 fm0_firstWon_805 fm0_secondWon_806 fm0_steps_807 fm0_kind_808 fm0_entered_809 am4131_812 am4132_815 am4133_818 am4134_821 am4135_824 am4136_827 am4137_830 am4138_833 am4139_836 am41310_839 am41311_842 am41312_845 am41313_848 am41314_851 => (qo_if (qo_eq r_800 4294967292) (qm_p_after fm0_on_801 fm0_trump_802 fm0_lead_803 fm0_played_804 fm0_firstWon_805 fm0_secondWon_806 fm0_steps_807 fm0_kind_808 fm0_entered_809 am4131_812 am4132_815 am4133_818 am4134_821 am4135_824 am4136_827 am4137_830 am4138_833 am4139_836 am41310_839 am41311_842 am41312_845 am41313_848 am41314_851 x13_740 (fun r_854 fm0_on_855 fm0_trump_856 fm0_lead_857 fm0_played_858 fm0_firstWon_859 fm0_secondWon_860 fm0_steps_861 fm0_kind_862 fm0_entered_863 am4241_866 am4242_869 am4243_872 am4244_875 am4245_878 am4246_881 am4247_884 am4248_887 am4249_890 am42410_893 am42411_896 am42412_899 am42413_902 am42414_905 => (qo_if (qo_eq x9 0) (qm_LlawOf_438 x6 x11 x12_739 x13_740 x6 r_854 fm0_on_855 fm0_trump_856 fm0_lead_857 fm0_played_858 fm0_firstWon_859 fm0_secondWon_860 fm0_steps_861 fm0_kind_862 fm0_entered_863 am4241_866 am4242_869 am4243_872 am4244_875 am4245_878 am4246_881 am4247_884 am4248_887 am4249_890 am42410_893 am42411_896 am42412_899 am42413_902 am42414_905 J) (qm_LlawOf_438 x6 x11 x12_739 x13_740 0 r_854 fm0_on_855 fm0_trump_856 fm0_lead_857 fm0_played_858 fm0_firstWon_859 fm0_secondWon_860 fm0_steps_861 fm0_kind_862 fm0_entered_863 am4241_866 am4242_869 am4243_872 am4244_875 am4245_878 am4246_881 am4247_884 am4248_887 am4249_890 am42410_893 am42411_896 am42412_899 am42413_902 am42414_905 J)))) false))) false))))) false)))))))))
noncomputable def qm_LlawOf_357 (x4 x5 x6 x8 x9 : Nat) (k : Nat → Bool) (n : Nat) : Nat → Nat → Nat → Nat → Nat → Nat → Nat → Nat → Nat → Nat → Nat → Nat → Nat → Nat → Nat → Nat → Nat → Nat → Nat → Nat → Nat → Nat → Nat → Nat → Nat → Bool := Nat.rec (motive := fun _ => Nat → Nat → Nat → Nat → Nat → Nat → Nat → Nat → Nat → Nat → Nat → Nat → Nat → Nat → Nat → Nat → Nat → Nat → Nat → Nat → Nat → Nat → Nat → Nat → Nat → Bool) (fun _ _ _ _ _ _ _ _ _ _ _ _ _ _ _ _ _ _ _ _ _ _ _ _ _ => false) (fun _ J => qm_LlawOf_357_s x4 x5 x6 x8 x9 k J) n
theorem qt_LlawOf_357 {post : Int32 → St0 → Prop} {mc : Nat} {ms : Nat} {kc : Nat} {ks : Nat} {x4_i : Int32} {x4 : Nat} {x5_i : Int32} {x5 : Nat} {x6_i : Int32} {x6 : Nat} {x8_i : Int32} {x8 : Nat} {x9_i : Int32} {x9 : Nat} {k : Nat → Bool} (e_x4 : x4_i = nI x4) (e_x5 : x5_i = nI x5) (e_x6 : x6_i = nI x6) (e_x8 : x8_i = nI x8) (e_x9 : x9_i = nI x9) (hk : ∀ r : Nat, k r = true → post (nI r) ()) : ∀ (n : Nat) {x7_i : Int32} {x7 : Nat} {x11_i : Int32} {x11 : Nat} {fm0_on : Nat} {fm0_trump : Nat} {fm0_lead : Nat} {fm0_played : Nat} {fm0_firstWon : Nat} {fm0_secondWon : Nat} {fm0_steps : Nat} {fm0_kind : Nat} {fm0_entered : Nat} {am41 : Nat} {am42 : Nat} {am43 : Nat} {am44 : Nat} {am45 : Nat} {am46 : Nat} {am47 : Nat} {am48 : Nat} {am49 : Nat} {am410 : Nat} {am411 : Nat} {am412 : Nat} {am413 : Nat} {am414 : Nat} (e_x7 : x7_i = nI x7) (e_x11 : x11_i = nI x11), qm_LlawOf_357 x4 x5 x6 x8 x9 k n x7 x11 fm0_on fm0_trump fm0_lead fm0_played fm0_firstWon fm0_secondWon fm0_steps fm0_kind fm0_entered am41 am42 am43 am44 am45 am46 am47 am48 am49 am410 am411 am412 am413 am414 = true → wL_lawOf_357 post mc ms x4_i x5_i x6_i x8_i x9_i kc ks n x7_i x11_i (nI fm0_on) (nI fm0_trump) (nI fm0_lead) (nI fm0_played) (nI fm0_firstWon) (nI fm0_secondWon) (nI fm0_steps) (nI fm0_kind) (nI fm0_entered) (qo_ar am41) (qo_ar am42) (qo_ar am43) (qo_ar am44) (qo_ar am45) (qo_ar am46) (qo_ar am47) (qo_ar am48) (qo_ar am49) (qo_ar am410) (qo_ar am411) (qo_ar am412) (qo_aL am413) (qo_ar am414) := by
  subst e_x4
  subst e_x5
  subst e_x6
  subst e_x8
  subst e_x9
  intro n
  induction n with
  | zero =>
    intros
    exact qo_no (by assumption)
  | succ n ih =>
    intro x7_i x7 x11_i x11 fm0_on fm0_trump fm0_lead fm0_played fm0_firstWon fm0_secondWon fm0_steps fm0_kind fm0_entered am41 am42 am43 am44 am45 am46 am47 am48 am49 am410 am411 am412 am413 am414 e_x7 e_x11 h
    subst e_x7
    subst e_x11
    replace h : qm_LlawOf_357_s x4 x5 x6 x8 x9 k (qm_LlawOf_357 x4 x5 x6 x8 x9 k n) x7 x11 fm0_on fm0_trump fm0_lead fm0_played fm0_firstWon fm0_secondWon fm0_steps fm0_kind fm0_entered am41 am42 am43 am44 am45 am46 am47 am48 am49 am410 am411 am412 am413 am414 = true := h
    unfold qm_LlawOf_357_s at h
    refine qo_br (qo_i_le qo_k4 (qo_v x11)) h (fun h => ?_) (fun h => ?_)
    · refine qo_br (qo_i_eq (qo_v x7) qo_k0) h (fun h => ?_) (fun h => ?_)
      · exact qo_no h
      · refine qt_p_won (qo_v x9) (fun r_728 h => ?_) h
        refine qo_br (qo_i_eq (qo_v r_728) qo_k1) h (fun h => ?_) (fun h => ?_)
        · rw [qo_fz_e] at h
          refine qt_p_won (qo_e_su qo_k1 (qo_v x9)) (fun r_730 h => ?_) h
          refine qo_br (qo_i_eq (qo_v r_730) qo_k0) h (fun h => ?_) (fun h => ?_)
          · refine qt_p_winning  (fun r_732 h => ?_) h
            refine qo_br (qo_i_eq (qo_v r_732) qo_km4) h (fun h => ?_) (fun h => ?_)
            · refine qt_p_toPlay  (fun r_734 h => ?_) h
              refine qo_br (qo_i_eq (qo_v x6) qo_k1) h (fun h => ?_) (fun h => ?_)
              · exact qt_LlawOf_560 (qo_v x4) (qo_v x5) (qo_v x6) (qo_v x9) qo_km4 (qo_v r_734) hk h
              · exact qt_LlawOf_560 (qo_v x4) (qo_v x5) (qo_v x6) (qo_v x9) (qo_v x8) (qo_v r_734) hk h
            · exact qo_no h
          · exact qo_no h
        · exact qo_no h
    · refine qo_nm (qo_e_an (qo_e_ad (qo_v x4) (qo_v x11)) qo_k3) h (fun x12_739 h => ?_)
      refine qo_nm (qo_e_an (qo_e_su (qo_v x12_739) (qo_v x5)) qo_k3) h (fun x13_740 h => ?_)
      refine qo_br (qo_i_eq (qo_v x7) qo_k0) h (fun h => ?_) (fun h => ?_)
      · exact qo_no h
      · refine qt_p_toPlay  (fun r_743 h => ?_) h
        refine qo_br (qo_i_eq (qo_v r_743) (qo_v x12_739)) h (fun h => ?_) (fun h => ?_)
        · rw [qo_fz_e] at h
          refine qt_p_play (qo_e_an (qo_e_ad (qo_v x13_740) qo_k1) qo_k3) (fun r_746 fm0_on_747 fm0_trump_748 fm0_lead_749 fm0_played_750 fm0_firstWon_751 fm0_secondWon_752 fm0_steps_753 fm0_kind_754 fm0_entered_755 am4021_758 am4022_761 am4023_764 am4024_767 am4025_770 am4026_773 am4027_776 am4028_779 am4029_782 am40210_785 am40211_788 am40212_791 am40213_794 am40214_797 h => ?_) h
          refine qo_br (qo_i_eq (qo_v r_746) qo_km4) h (fun h => ?_) (fun h => ?_)
          · refine qt_p_play qo_k12 (fun r_800 fm0_on_801 fm0_trump_802 fm0_lead_803 fm0_played_804 fm0_firstWon_805 fm0_secondWon_806 fm0_steps_807 fm0_kind_808 fm0_entered_809 am4131_812 am4132_815 am4133_818 am4134_821 am4135_824 am4136_827 am4137_830 am4138_833 am4139_836 am41310_839 am41311_842 am41312_845 am41313_848 am41314_851 h => ?_) h
            refine qo_br (qo_i_eq (qo_v r_800) qo_km4) h (fun h => ?_) (fun h => ?_)
            · refine qt_p_after (qo_v x13_740) (fun r_854 fm0_on_855 fm0_trump_856 fm0_lead_857 fm0_played_858 fm0_firstWon_859 fm0_secondWon_860 fm0_steps_861 fm0_kind_862 fm0_entered_863 am4241_866 am4242_869 am4243_872 am4244_875 am4245_878 am4246_881 am4247_884 am4248_887 am4249_890 am42410_893 am42411_896 am42412_899 am42413_902 am42414_905 h => ?_) h
              refine qo_br (qo_i_eq (qo_v x9) qo_k0) h (fun h => ?_) (fun h => ?_)
              · exact qt_LlawOf_438 (qo_v x6) (qo_v x11) (qo_v x12_739) (qo_v x13_740) (qo_v x6) (qo_v r_854) (fun w0 w1 w2 w3 w4 w5 w6 w7 w8 w9 w10 w11 w12 w13 w14 w15 w16 w17 w18 w19 w20 w21 w22 w23 w24 h => ih (qo_v w0) (qo_v w1)                        h) h
              · exact qt_LlawOf_438 (qo_v x6) (qo_v x11) (qo_v x12_739) (qo_v x13_740) qo_k0 (qo_v r_854) (fun w0 w1 w2 w3 w4 w5 w6 w7 w8 w9 w10 w11 w12 w13 w14 w15 w16 w17 w18 w19 w20 w21 w22 w23 w24 h => ih (qo_v w0) (qo_v w1)                        h) h
            · exact qo_no h
          · exact qo_no h
        · exact qo_no h
noncomputable def qm_LlawOf_324 (x4 x5 x6 x8 x9 x10 z0 z1 fm0_on fm0_trump fm0_lead fm0_played fm0_firstWon fm0_secondWon fm0_steps fm0_kind fm0_entered am3101 am3102 am3103 am3104 am3105 am3106 am3107 am3108 am3109 am31010 am31011 am31012 am31013 am31014 : Nat) (k : Nat → Bool) : Bool := (qo_if (qo_eq z1 z0) (qm_p_least fm0_on fm0_trump fm0_lead fm0_played fm0_firstWon fm0_secondWon fm0_steps fm0_kind fm0_entered am3101 am3102 am3103 am3104 am3105 am3106 am3107 am3108 am3109 am31010 am31011 am31012 am31013 am31014 (fun r_1023 fm0_on_1024 fm0_trump_1025 fm0_lead_1026 fm0_played_1027 fm0_firstWon_1028 fm0_secondWon_1029 fm0_steps_1030 fm0_kind_1031 fm0_entered_1032 am3281_1035 am3282_1038 am3283_1041 am3284_1044 am3285_1047 am3286_1050 am3287_1053 am3288_1056 am3289_1059 am32810_1062 am32811_1065 am32812_1068 am32813_1071 am32814_1074 => (qm_p_value fm0_on_1024 fm0_trump_1025 fm0_lead_1026 fm0_played_1027 fm0_firstWon_1028 fm0_secondWon_1029 fm0_steps_1030 fm0_kind_1031 fm0_entered_1032 am3281_1035 am3282_1038 am3283_1041 am3284_1044 am3285_1047 am3286_1050 am3287_1053 am3288_1056 am3289_1059 am32810_1062 am32811_1065 am32812_1068 am32813_1071 am32814_1074 (fun r_1075 fm0_on_1076 fm0_trump_1077 fm0_lead_1078 fm0_played_1079 fm0_firstWon_1080 fm0_secondWon_1081 fm0_steps_1082 fm0_kind_1083 fm0_entered_1084 am3321_1087 am3322_1090 am3323_1093 am3324_1096 am3325_1099 am3326_1102 am3327_1105 am3328_1108 am3329_1111 am33210_1114 am33211_1117 am33212_1120 am33213_1123 am33214_1126 => (qo_if (qo_eq r_1023 r_1075) (qm_p_courses fm0_on_1076 fm0_trump_1077 fm0_lead_1078 fm0_played_1079 fm0_firstWon_1080 fm0_secondWon_1081 fm0_steps_1082 fm0_kind_1083 fm0_entered_1084 am3321_1087 am3322_1090 am3323_1093 am3324_1096 am3325_1099 am3326_1102 am3327_1105 am3328_1108 am3329_1111 am33210_1114 am33211_1117 am33212_1120 am33213_1123 am33214_1126 (fun r_1128 fm0_on_1129 fm0_trump_1130 fm0_lead_1131 fm0_played_1132 fm0_firstWon_1133 fm0_secondWon_1134 fm0_steps_1135 fm0_kind_1136 fm0_entered_1137 am3391_1140 am3392_1143 am3393_1146 am3394_1149 am3395_1152 am3396_1155 am3397_1158 am3398_1161 am3399_1164 am33910_1167 am33911_1170 am33912_1173 am33913_1176 am33914_1179 => (qo_if (qo_eq r_1128 x10) (qm_LlawOf_357 x4 x5 x6 x8 x9 k 5 1 0 fm0_on_1129 fm0_trump_1130 fm0_lead_1131 fm0_played_1132 fm0_firstWon_1133 fm0_secondWon_1134 fm0_steps_1135 fm0_kind_1136 fm0_entered_1137 am3391_1140 am3392_1143 am3393_1146 am3394_1149 am3395_1152 am3396_1155 am3397_1158 am3398_1161 am3399_1164 am33910_1167 am33911_1170 am33912_1173 am33913_1176 am33914_1179) false))) false))))) false)
theorem qt_LlawOf_324 {post : Int32 → St0 → Prop} {mc : Nat} {ms : Nat} {kc : Nat} {ks : Nat} {x4_i : Int32} {x4 : Nat} {x5_i : Int32} {x5 : Nat} {x6_i : Int32} {x6 : Nat} {x8_i : Int32} {x8 : Nat} {x9_i : Int32} {x9 : Nat} {x10_i : Int32} {x10 : Nat} {z0_i : Int32} {z0 : Nat} {z1_i : Int32} {z1 : Nat} {fm0_on : Nat} {fm0_trump : Nat} {fm0_lead : Nat} {fm0_played : Nat} {fm0_firstWon : Nat} {fm0_secondWon : Nat} {fm0_steps : Nat} {fm0_kind : Nat} {fm0_entered : Nat} {am3101 : Nat} {am3102 : Nat} {am3103 : Nat} {am3104 : Nat} {am3105 : Nat} {am3106 : Nat} {am3107 : Nat} {am3108 : Nat} {am3109 : Nat} {am31010 : Nat} {am31011 : Nat} {am31012 : Nat} {am31013 : Nat} {am31014 : Nat} {k : Nat → Bool} (e_x4 : x4_i = nI x4) (e_x5 : x5_i = nI x5) (e_x6 : x6_i = nI x6) (e_x8 : x8_i = nI x8) (e_x9 : x9_i = nI x9) (e_x10 : x10_i = nI x10) (e_z0 : z0_i = nI z0) (e_z1 : z1_i = nI z1) (hk : ∀ r : Nat, k r = true → post (nI r) ()) (h : qm_LlawOf_324 x4 x5 x6 x8 x9 x10 z0 z1 fm0_on fm0_trump fm0_lead fm0_played fm0_firstWon fm0_secondWon fm0_steps fm0_kind fm0_entered am3101 am3102 am3103 am3104 am3105 am3106 am3107 am3108 am3109 am31010 am31011 am31012 am31013 am31014 k = true) : wL_lawOf_324 post mc ms x4_i x5_i x6_i x8_i x9_i x10_i z0_i z1_i kc ks (nI fm0_on) (nI fm0_trump) (nI fm0_lead) (nI fm0_played) (nI fm0_firstWon) (nI fm0_secondWon) (nI fm0_steps) (nI fm0_kind) (nI fm0_entered) (qo_ar am3101) (qo_ar am3102) (qo_ar am3103) (qo_ar am3104) (qo_ar am3105) (qo_ar am3106) (qo_ar am3107) (qo_ar am3108) (qo_ar am3109) (qo_ar am31010) (qo_ar am31011) (qo_ar am31012) (qo_aL am31013) (qo_ar am31014) := by
  subst e_x4
  subst e_x5
  subst e_x6
  subst e_x8
  subst e_x9
  subst e_x10
  subst e_z0
  subst e_z1
  unfold qm_LlawOf_324 at h
  unfold wL_lawOf_324
  refine qo_br (qo_i_eq (qo_v z1) (qo_v z0)) h (fun h => ?_) (fun h => ?_)
  · refine qt_p_least  (fun r_1023 fm0_on_1024 fm0_trump_1025 fm0_lead_1026 fm0_played_1027 fm0_firstWon_1028 fm0_secondWon_1029 fm0_steps_1030 fm0_kind_1031 fm0_entered_1032 am3281_1035 am3282_1038 am3283_1041 am3284_1044 am3285_1047 am3286_1050 am3287_1053 am3288_1056 am3289_1059 am32810_1062 am32811_1065 am32812_1068 am32813_1071 am32814_1074 h => ?_) h
    refine qt_p_value  (fun r_1075 fm0_on_1076 fm0_trump_1077 fm0_lead_1078 fm0_played_1079 fm0_firstWon_1080 fm0_secondWon_1081 fm0_steps_1082 fm0_kind_1083 fm0_entered_1084 am3321_1087 am3322_1090 am3323_1093 am3324_1096 am3325_1099 am3326_1102 am3327_1105 am3328_1108 am3329_1111 am33210_1114 am33211_1117 am33212_1120 am33213_1123 am33214_1126 h => ?_) h
    refine qo_br (qo_i_eq (qo_v r_1023) (qo_v r_1075)) h (fun h => ?_) (fun h => ?_)
    · refine qt_p_courses  (fun r_1128 fm0_on_1129 fm0_trump_1130 fm0_lead_1131 fm0_played_1132 fm0_firstWon_1133 fm0_secondWon_1134 fm0_steps_1135 fm0_kind_1136 fm0_entered_1137 am3391_1140 am3392_1143 am3393_1146 am3394_1149 am3395_1152 am3396_1155 am3397_1158 am3398_1161 am3399_1164 am33910_1167 am33911_1170 am33912_1173 am33913_1176 am33914_1179 h => ?_) h
      refine qo_br (qo_i_eq (qo_v r_1128) (qo_v x10)) h (fun h => ?_) (fun h => ?_)
      · exact ⟨5, qt_LlawOf_357 (qo_v x4) (qo_v x5) (qo_v x6) (qo_v x8) (qo_v x9) hk _ qo_k1 qo_k0 h⟩
      · exact qo_no h
    · exact qo_no h
  · exact qo_no h
noncomputable def qm_LlawOf_302 (x4 x5 x6 x7 x8 x9 z0 fm0_on fm0_trump fm0_lead fm0_played fm0_firstWon fm0_secondWon fm0_steps fm0_kind fm0_entered am41 am42 am43 am44 am45 am46 am47 am48 am49 am410 am411 am412 am413 am414 : Nat) (k : Nat → Bool) : Bool := (qo_if (qo_eq x7 0) false (qm_p_value fm0_on fm0_trump fm0_lead fm0_played fm0_firstWon fm0_secondWon fm0_steps fm0_kind fm0_entered am41 am42 am43 am44 am45 am46 am47 am48 am49 am410 am411 am412 am413 am414 (fun r_969 fm0_on_970 fm0_trump_971 fm0_lead_972 fm0_played_973 fm0_firstWon_974 fm0_secondWon_975 fm0_steps_976 fm0_kind_977 fm0_entered_978 am3101_981 am3102_984 am3103_987 am3104_990 am3105_993 am3106_996 am3107_999 am3108_1002 am3109_1005 am31010_1008 am31011_1011 am31012_1014 am31013_1017 am31014_1020 => (qo_if (qo_eq x9 0) (qm_LlawOf_324 x4 x5 x6 x8 x9 z0 x6 r_969 fm0_on_970 fm0_trump_971 fm0_lead_972 fm0_played_973 fm0_firstWon_974 fm0_secondWon_975 fm0_steps_976 fm0_kind_977 fm0_entered_978 am3101_981 am3102_984 am3103_987 am3104_990 am3105_993 am3106_996 am3107_999 am3108_1002 am3109_1005 am31010_1008 am31011_1011 am31012_1014 am31013_1017 am31014_1020 k) (qm_LlawOf_324 x4 x5 x6 x8 x9 z0 0 r_969 fm0_on_970 fm0_trump_971 fm0_lead_972 fm0_played_973 fm0_firstWon_974 fm0_secondWon_975 fm0_steps_976 fm0_kind_977 fm0_entered_978 am3101_981 am3102_984 am3103_987 am3104_990 am3105_993 am3106_996 am3107_999 am3108_1002 am3109_1005 am31010_1008 am31011_1011 am31012_1014 am31013_1017 am31014_1020 k)))))
theorem qt_LlawOf_302 {post : Int32 → St0 → Prop} {mc : Nat} {ms : Nat} {kc : Nat} {ks : Nat} {x4_i : Int32} {x4 : Nat} {x5_i : Int32} {x5 : Nat} {x6_i : Int32} {x6 : Nat} {x7_i : Int32} {x7 : Nat} {x8_i : Int32} {x8 : Nat} {x9_i : Int32} {x9 : Nat} {z0_i : Int32} {z0 : Nat} {fm0_on : Nat} {fm0_trump : Nat} {fm0_lead : Nat} {fm0_played : Nat} {fm0_firstWon : Nat} {fm0_secondWon : Nat} {fm0_steps : Nat} {fm0_kind : Nat} {fm0_entered : Nat} {am41 : Nat} {am42 : Nat} {am43 : Nat} {am44 : Nat} {am45 : Nat} {am46 : Nat} {am47 : Nat} {am48 : Nat} {am49 : Nat} {am410 : Nat} {am411 : Nat} {am412 : Nat} {am413 : Nat} {am414 : Nat} {k : Nat → Bool} (e_x4 : x4_i = nI x4) (e_x5 : x5_i = nI x5) (e_x6 : x6_i = nI x6) (e_x7 : x7_i = nI x7) (e_x8 : x8_i = nI x8) (e_x9 : x9_i = nI x9) (e_z0 : z0_i = nI z0) (hk : ∀ r : Nat, k r = true → post (nI r) ()) (h : qm_LlawOf_302 x4 x5 x6 x7 x8 x9 z0 fm0_on fm0_trump fm0_lead fm0_played fm0_firstWon fm0_secondWon fm0_steps fm0_kind fm0_entered am41 am42 am43 am44 am45 am46 am47 am48 am49 am410 am411 am412 am413 am414 k = true) : wL_lawOf_302 post mc ms x4_i x5_i x6_i x7_i x8_i x9_i z0_i kc ks (nI fm0_on) (nI fm0_trump) (nI fm0_lead) (nI fm0_played) (nI fm0_firstWon) (nI fm0_secondWon) (nI fm0_steps) (nI fm0_kind) (nI fm0_entered) (qo_ar am41) (qo_ar am42) (qo_ar am43) (qo_ar am44) (qo_ar am45) (qo_ar am46) (qo_ar am47) (qo_ar am48) (qo_ar am49) (qo_ar am410) (qo_ar am411) (qo_ar am412) (qo_aL am413) (qo_ar am414) := by
  subst e_x4
  subst e_x5
  subst e_x6
  subst e_x7
  subst e_x8
  subst e_x9
  subst e_z0
  unfold qm_LlawOf_302 at h
  unfold wL_lawOf_302
  refine qo_br (qo_i_eq (qo_v x7) qo_k0) h (fun h => ?_) (fun h => ?_)
  · exact qo_no h
  · refine qt_p_value  (fun r_969 fm0_on_970 fm0_trump_971 fm0_lead_972 fm0_played_973 fm0_firstWon_974 fm0_secondWon_975 fm0_steps_976 fm0_kind_977 fm0_entered_978 am3101_981 am3102_984 am3103_987 am3104_990 am3105_993 am3106_996 am3107_999 am3108_1002 am3109_1005 am31010_1008 am31011_1011 am31012_1014 am31013_1017 am31014_1020 h => ?_) h
    refine qo_br (qo_i_eq (qo_v x9) qo_k0) h (fun h => ?_) (fun h => ?_)
    · exact qt_LlawOf_324 (qo_v x4) (qo_v x5) (qo_v x6) (qo_v x8) (qo_v x9) (qo_v z0) (qo_v x6) (qo_v r_969) hk h
    · exact qt_LlawOf_324 (qo_v x4) (qo_v x5) (qo_v x6) (qo_v x8) (qo_v x9) (qo_v z0) qo_k0 (qo_v r_969) hk h
noncomputable def qm_LlawOf_272 (x4 x5 x6 x8 z0 fm0_on fm0_trump fm0_lead fm0_played fm0_firstWon fm0_secondWon fm0_steps fm0_kind fm0_entered am41 am42 am43 am44 am45 am46 am47 am48 am49 am410 am411 am412 am413 am414 : Nat) (k : Nat → Bool) : Bool := (qo_fz (Nat.land x8 1) (fun x9_68 => (qo_if (qo_eq x6 1) (qm_LlawOf_302 x4 x5 x6 z0 x8 x9_68 1 fm0_on fm0_trump fm0_lead fm0_played fm0_firstWon fm0_secondWon fm0_steps fm0_kind fm0_entered am41 am42 am43 am44 am45 am46 am47 am48 am49 am410 am411 am412 am413 am414 k) (qo_if (qo_eq x6 2) (qm_LlawOf_302 x4 x5 x6 z0 x8 x9_68 2 fm0_on fm0_trump fm0_lead fm0_played fm0_firstWon fm0_secondWon fm0_steps fm0_kind fm0_entered am41 am42 am43 am44 am45 am46 am47 am48 am49 am410 am411 am412 am413 am414 k) (qm_LlawOf_302 x4 x5 x6 z0 x8 x9_68 6 fm0_on fm0_trump fm0_lead fm0_played fm0_firstWon fm0_secondWon fm0_steps fm0_kind fm0_entered am41 am42 am43 am44 am45 am46 am47 am48 am49 am410 am411 am412 am413 am414 k)))))
theorem qt_LlawOf_272 {post : Int32 → St0 → Prop} {mc : Nat} {ms : Nat} {kc : Nat} {ks : Nat} {x4_i : Int32} {x4 : Nat} {x5_i : Int32} {x5 : Nat} {x6_i : Int32} {x6 : Nat} {x8_i : Int32} {x8 : Nat} {z0_i : Int32} {z0 : Nat} {fm0_on : Nat} {fm0_trump : Nat} {fm0_lead : Nat} {fm0_played : Nat} {fm0_firstWon : Nat} {fm0_secondWon : Nat} {fm0_steps : Nat} {fm0_kind : Nat} {fm0_entered : Nat} {am41 : Nat} {am42 : Nat} {am43 : Nat} {am44 : Nat} {am45 : Nat} {am46 : Nat} {am47 : Nat} {am48 : Nat} {am49 : Nat} {am410 : Nat} {am411 : Nat} {am412 : Nat} {am413 : Nat} {am414 : Nat} {k : Nat → Bool} (e_x4 : x4_i = nI x4) (e_x5 : x5_i = nI x5) (e_x6 : x6_i = nI x6) (e_x8 : x8_i = nI x8) (e_z0 : z0_i = nI z0) (hk : ∀ r : Nat, k r = true → post (nI r) ()) (h : qm_LlawOf_272 x4 x5 x6 x8 z0 fm0_on fm0_trump fm0_lead fm0_played fm0_firstWon fm0_secondWon fm0_steps fm0_kind fm0_entered am41 am42 am43 am44 am45 am46 am47 am48 am49 am410 am411 am412 am413 am414 k = true) : wL_lawOf_272 post mc ms x4_i x5_i x6_i x8_i z0_i kc ks (nI fm0_on) (nI fm0_trump) (nI fm0_lead) (nI fm0_played) (nI fm0_firstWon) (nI fm0_secondWon) (nI fm0_steps) (nI fm0_kind) (nI fm0_entered) (qo_ar am41) (qo_ar am42) (qo_ar am43) (qo_ar am44) (qo_ar am45) (qo_ar am46) (qo_ar am47) (qo_ar am48) (qo_ar am49) (qo_ar am410) (qo_ar am411) (qo_ar am412) (qo_aL am413) (qo_ar am414) := by
  subst e_x4
  subst e_x5
  subst e_x6
  subst e_x8
  subst e_z0
  unfold qm_LlawOf_272 at h
  unfold wL_lawOf_272
  refine qo_nm (qo_e_an (qo_v x8) qo_k1) h (fun x9_68 h => ?_)
  refine qo_br (qo_i_eq (qo_v x6) qo_k1) h (fun h => ?_) (fun h => ?_)
  · exact qt_LlawOf_302 (qo_v x4) (qo_v x5) (qo_v x6) (qo_v z0) (qo_v x8) (qo_v x9_68) qo_k1 hk h
  · refine qo_br (qo_i_eq (qo_v x6) qo_k2) h (fun h => ?_) (fun h => ?_)
    · exact qt_LlawOf_302 (qo_v x4) (qo_v x5) (qo_v x6) (qo_v z0) (qo_v x8) (qo_v x9_68) qo_k2 hk h
    · exact qt_LlawOf_302 (qo_v x4) (qo_v x5) (qo_v x6) (qo_v z0) (qo_v x8) (qo_v x9_68) qo_k6 hk h
noncomputable def qm_LlawOf_192 (x4 x5 x6 x8 fm0_on fm0_trump fm0_lead fm0_played fm0_firstWon fm0_secondWon fm0_steps fm0_kind fm0_entered am41 am42 am43 am44 am45 am46 am47 am48 am49 am410 am411 am412 am413 am414 : Nat) (k : Nat → Bool) : Bool := (qm_p_toPlay fm0_on fm0_lead fm0_played am42 (fun r_1182 => (qo_if (qo_eq r_1182 4294967293) (qm_p_legal fm0_on fm0_lead fm0_played am42 am43 (fun r_1184 => (qo_if (qo_eq r_1184 4294967293) (qm_p_value fm0_on fm0_trump fm0_lead fm0_played fm0_firstWon fm0_secondWon fm0_steps fm0_kind fm0_entered am41 am42 am43 am44 am45 am46 am47 am48 am49 am410 am411 am412 am413 am414 (fun r_1186 fm0_on_1187 fm0_trump_1188 fm0_lead_1189 fm0_played_1190 fm0_firstWon_1191 fm0_secondWon_1192 fm0_steps_1193 fm0_kind_1194 fm0_entered_1195 am2111_1198 am2112_1201 am2113_1204 am2114_1207 am2115_1210 am2116_1213 am2117_1216 am2118_1219 am2119_1222 am21110_1225 am21111_1228 am21112_1231 am21113_1234 am21114_1237 => (qo_if (qo_eq r_1186 4294967293) (qm_p_best fm0_on_1187 fm0_trump_1188 fm0_lead_1189 fm0_played_1190 fm0_firstWon_1191 fm0_secondWon_1192 fm0_steps_1193 fm0_kind_1194 fm0_entered_1195 am2111_1198 am2112_1201 am2113_1204 am2114_1207 am2115_1210 am2116_1213 am2117_1216 am2118_1219 am2119_1222 am21110_1225 am21111_1228 am21112_1231 am21113_1234 am21114_1237 (fun r_1239 fm0_on_1240 fm0_trump_1241 fm0_lead_1242 fm0_played_1243 fm0_firstWon_1244 fm0_secondWon_1245 fm0_steps_1246 fm0_kind_1247 fm0_entered_1248 am2201_1251 am2202_1254 am2203_1257 am2204_1260 am2205_1263 am2206_1266 am2207_1269 am2208_1272 am2209_1275 am22010_1278 am22011_1281 am22012_1284 am22013_1287 am22014_1290 => (qo_if (qo_eq r_1239 4294967293) (qm_p_undo fm0_on_1240 fm0_trump_1241 fm0_lead_1242 fm0_played_1243 fm0_firstWon_1244 fm0_secondWon_1245 fm0_steps_1246 fm0_kind_1247 fm0_entered_1248 am2201_1251 am2202_1254 am2203_1257 am2204_1260 am2205_1263 am2206_1266 am2207_1269 am2208_1272 am2209_1275 am22010_1278 am22011_1281 am22012_1284 am22013_1287 am22014_1290 (fun r_1292 fm0_on_1293 fm0_trump_1294 fm0_lead_1295 fm0_played_1296 fm0_firstWon_1297 fm0_secondWon_1298 fm0_steps_1299 fm0_kind_1300 fm0_entered_1301 am2291_1304 am2292_1307 am2293_1310 am2294_1313 am2295_1316 am2296_1319 am2297_1322 am2298_1325 am2299_1328 am22910_1331 am22911_1334 am22912_1337 am22913_1340 am22914_1343 => (qo_if (qo_eq r_1292 4294967293) (qm_p_winning fm0_on_1293 fm0_trump_1294 fm0_lead_1295 fm0_played_1296 am2293_1310 (fun r_1345 => (qo_if (qo_eq r_1345 4294967293) (qm_p_start fm0_on_1293 fm0_trump_1294 fm0_lead_1295 fm0_played_1296 fm0_firstWon_1297 fm0_secondWon_1298 fm0_steps_1299 fm0_kind_1300 fm0_entered_1301 am2291_1304 am2292_1307 am2293_1310 am2294_1313 am2295_1316 am2296_1319 am2297_1322 am2298_1325 am2299_1328 am22910_1331 am22911_1334 am22912_1337 am22913_1340 am22914_1343 x4 4294967295 (fun r_1347 fm0_on_1348 fm0_trump_1349 fm0_lead_1350 fm0_played_1351 fm0_firstWon_1352 fm0_secondWon_1353 fm0_steps_1354 fm0_kind_1355 fm0_entered_1356 am2501_1359 am2502_1362 am2503_1365 am2504_1368 am2505_1371 am2506_1374 am2507_1377 am2508_1380 am2509_1383 am25010_1386 am25011_1389 am25012_1392 am25013_1395 am25014_1398 => (qo_if (qo_eq r_1347 x6) (qm_p_toPlay fm0_on_1348 fm0_lead_1350 fm0_played_1351 am2502_1362 (fun r_1400 => (qo_if (qo_eq r_1400 x4) (qm_LlawOf_272 x4 x5 x6 x8 1 fm0_on_1348 fm0_trump_1349 fm0_lead_1350 fm0_played_1351 fm0_firstWon_1352 fm0_secondWon_1353 fm0_steps_1354 fm0_kind_1355 fm0_entered_1356 am2501_1359 am2502_1362 am2503_1365 am2504_1368 am2505_1371 am2506_1374 am2507_1377 am2508_1380 am2509_1383 am25010_1386 am25011_1389 am25012_1392 am25013_1395 am25014_1398 k) false))) false))) false))) false))) false))) false))) false))) false)))
theorem qt_LlawOf_192 {post : Int32 → St0 → Prop} {mc : Nat} {ms : Nat} {kc : Nat} {ks : Nat} {x4_i : Int32} {x4 : Nat} {x5_i : Int32} {x5 : Nat} {x6_i : Int32} {x6 : Nat} {x8_i : Int32} {x8 : Nat} {fm0_on : Nat} {fm0_trump : Nat} {fm0_lead : Nat} {fm0_played : Nat} {fm0_firstWon : Nat} {fm0_secondWon : Nat} {fm0_steps : Nat} {fm0_kind : Nat} {fm0_entered : Nat} {am41 : Nat} {am42 : Nat} {am43 : Nat} {am44 : Nat} {am45 : Nat} {am46 : Nat} {am47 : Nat} {am48 : Nat} {am49 : Nat} {am410 : Nat} {am411 : Nat} {am412 : Nat} {am413 : Nat} {am414 : Nat} {k : Nat → Bool} (e_x4 : x4_i = nI x4) (e_x5 : x5_i = nI x5) (e_x6 : x6_i = nI x6) (e_x8 : x8_i = nI x8) (hk : ∀ r : Nat, k r = true → post (nI r) ()) (h : qm_LlawOf_192 x4 x5 x6 x8 fm0_on fm0_trump fm0_lead fm0_played fm0_firstWon fm0_secondWon fm0_steps fm0_kind fm0_entered am41 am42 am43 am44 am45 am46 am47 am48 am49 am410 am411 am412 am413 am414 k = true) : wL_lawOf_192 post mc ms x4_i x5_i x6_i x8_i kc ks (nI fm0_on) (nI fm0_trump) (nI fm0_lead) (nI fm0_played) (nI fm0_firstWon) (nI fm0_secondWon) (nI fm0_steps) (nI fm0_kind) (nI fm0_entered) (qo_ar am41) (qo_ar am42) (qo_ar am43) (qo_ar am44) (qo_ar am45) (qo_ar am46) (qo_ar am47) (qo_ar am48) (qo_ar am49) (qo_ar am410) (qo_ar am411) (qo_ar am412) (qo_aL am413) (qo_ar am414) := by
  subst e_x4
  subst e_x5
  subst e_x6
  subst e_x8
  unfold qm_LlawOf_192 at h
  unfold wL_lawOf_192
  refine qt_p_toPlay  (fun r_1182 h => ?_) h
  refine qo_br (qo_i_eq (qo_v r_1182) qo_km3) h (fun h => ?_) (fun h => ?_)
  · refine qt_p_legal  (fun r_1184 h => ?_) h
    refine qo_br (qo_i_eq (qo_v r_1184) qo_km3) h (fun h => ?_) (fun h => ?_)
    · refine qt_p_value  (fun r_1186 fm0_on_1187 fm0_trump_1188 fm0_lead_1189 fm0_played_1190 fm0_firstWon_1191 fm0_secondWon_1192 fm0_steps_1193 fm0_kind_1194 fm0_entered_1195 am2111_1198 am2112_1201 am2113_1204 am2114_1207 am2115_1210 am2116_1213 am2117_1216 am2118_1219 am2119_1222 am21110_1225 am21111_1228 am21112_1231 am21113_1234 am21114_1237 h => ?_) h
      refine qo_br (qo_i_eq (qo_v r_1186) qo_km3) h (fun h => ?_) (fun h => ?_)
      · refine qt_p_best  (fun r_1239 fm0_on_1240 fm0_trump_1241 fm0_lead_1242 fm0_played_1243 fm0_firstWon_1244 fm0_secondWon_1245 fm0_steps_1246 fm0_kind_1247 fm0_entered_1248 am2201_1251 am2202_1254 am2203_1257 am2204_1260 am2205_1263 am2206_1266 am2207_1269 am2208_1272 am2209_1275 am22010_1278 am22011_1281 am22012_1284 am22013_1287 am22014_1290 h => ?_) h
        refine qo_br (qo_i_eq (qo_v r_1239) qo_km3) h (fun h => ?_) (fun h => ?_)
        · refine qt_p_undo  (fun r_1292 fm0_on_1293 fm0_trump_1294 fm0_lead_1295 fm0_played_1296 fm0_firstWon_1297 fm0_secondWon_1298 fm0_steps_1299 fm0_kind_1300 fm0_entered_1301 am2291_1304 am2292_1307 am2293_1310 am2294_1313 am2295_1316 am2296_1319 am2297_1322 am2298_1325 am2299_1328 am22910_1331 am22911_1334 am22912_1337 am22913_1340 am22914_1343 h => ?_) h
          refine qo_br (qo_i_eq (qo_v r_1292) qo_km3) h (fun h => ?_) (fun h => ?_)
          · refine qt_p_winning  (fun r_1345 h => ?_) h
            refine qo_br (qo_i_eq (qo_v r_1345) qo_km3) h (fun h => ?_) (fun h => ?_)
            · refine qt_p_start (qo_v x4) qo_km1 (fun r_1347 fm0_on_1348 fm0_trump_1349 fm0_lead_1350 fm0_played_1351 fm0_firstWon_1352 fm0_secondWon_1353 fm0_steps_1354 fm0_kind_1355 fm0_entered_1356 am2501_1359 am2502_1362 am2503_1365 am2504_1368 am2505_1371 am2506_1374 am2507_1377 am2508_1380 am2509_1383 am25010_1386 am25011_1389 am25012_1392 am25013_1395 am25014_1398 h => ?_) h
              refine qo_br (qo_i_eq (qo_v r_1347) (qo_v x6)) h (fun h => ?_) (fun h => ?_)
              · refine qt_p_toPlay  (fun r_1400 h => ?_) h
                refine qo_br (qo_i_eq (qo_v r_1400) (qo_v x4)) h (fun h => ?_) (fun h => ?_)
                · exact qt_LlawOf_272 (qo_v x4) (qo_v x5) (qo_v x6) (qo_v x8) qo_k1 hk h
                · exact qo_no h
              · exact qo_no h
            · exact qo_no h
          · exact qo_no h
        · exact qo_no h
      · exact qo_no h
    · exact qo_no h
  · exact qo_no h
noncomputable def qm_LlawOf_97_s (x4 x5 x6 : Nat) (k : Nat → Bool) (J : Nat → Nat → Nat → Nat → Nat → Nat → Nat → Nat → Nat → Nat → Nat → Nat → Nat → Nat → Nat → Nat → Nat → Nat → Nat → Nat → Nat → Nat → Nat → Nat → Nat → Bool) (x7 x8 fm0_on fm0_trump fm0_lead fm0_played fm0_firstWon fm0_secondWon fm0_steps fm0_kind fm0_entered am41 am42 am43 am44 am45 am46 am47 am48 am49 am410 am411 am412 am413 am414 : Nat) : Bool := (qo_if (qo_le 12 x8) (qo_fz (Nat.land (qo_ad x5 3) 3) (fun x8_66 => (qo_if (qo_eq x7 0) false (qo_if (qo_lt x6 3) (qm_LlawOf_192 x4 x5 x6 x8_66 fm0_on fm0_trump fm0_lead fm0_played fm0_firstWon fm0_secondWon fm0_steps fm0_kind fm0_entered am41 am42 am43 am44 am45 am46 am47 am48 am49 am410 am411 am412 am413 am414 k) (qo_fz (Nat.land (qo_ad x5 1) 3) (fun y_1 => (qm_p_deal fm0_on fm0_trump fm0_lead fm0_played fm0_firstWon fm0_secondWon fm0_steps fm0_kind fm0_entered am41 am42 am43 am44 am45 am46 am47 am48 am49 am410 am411 am412 am413 am414 0 y_1 (fun r_1402 fm0_on_1403 fm0_trump_1404 fm0_lead_1405 fm0_played_1406 fm0_firstWon_1407 fm0_secondWon_1408 fm0_steps_1409 fm0_kind_1410 fm0_entered_1411 am1841_1414 am1842_1417 am1843_1420 am1844_1423 am1845_1426 am1846_1429 am1847_1432 am1848_1435 am1849_1438 am18410_1441 am18411_1444 am18412_1447 am18413_1450 am18414_1453 => (qo_if (qo_eq r_1402 4294967294) (qm_LlawOf_192 x4 x5 x6 x8_66 fm0_on_1403 fm0_trump_1404 fm0_lead_1405 fm0_played_1406 fm0_firstWon_1407 fm0_secondWon_1408 fm0_steps_1409 fm0_kind_1410 fm0_entered_1411 am1841_1414 am1842_1417 am1843_1420 am1844_1423 am1845_1426 am1846_1429 am1847_1432 am1848_1435 am1849_1438 am18410_1441 am18411_1444 am18412_1447 am18413_1450 am18414_1453 k) false))))))))) (qo_fz (Nat.land (qo_ad x5 (Nat.land x8 3)) 3) (fun x9_1455 => (qo_if (qo_eq x7 0) false (qo_if (qo_le (qo_mu 4 x6) x8) (qo_fz (qo_ad x8 1) (fun x8_1459 => (J 1 x8_1459 fm0_on fm0_trump fm0_lead fm0_played fm0_firstWon fm0_secondWon fm0_steps fm0_kind fm0_entered am41 am42 am43 am44 am45 am46 am47 am48 am49 am410 am411 am412 am413 am414))) (qm_p_deal fm0_on fm0_trump fm0_lead fm0_played fm0_firstWon fm0_secondWon fm0_steps fm0_kind fm0_entered am41 am42 am43 am44 am45 am46 am47 am48 am49 am410 am411 am412 am413 am414 x8 x9_1455 (fun r_1460 fm0_on_1461 fm0_trump_1462 fm0_lead_1463 fm0_played_1464 fm0_firstWon_1465 fm0_secondWon_1466 fm0_steps_1467 fm0_kind_1468 fm0_entered_1469 am1341_1472 am1342_1475 am1343_1478 am1344_1481 am1345_1484 am1346_1487 am1347_1490 am1348_1493 am1349_1496 am13410_1499 am13411_1502 am13412_1505 am13413_1508 am13414_1511 => (qo_if (qo_eq r_1460 (qo_ad x8 1)) (qo_fz (qo_ad x8 1) (fun x8_1514 => (J 1 x8_1514 fm0_on_1461 fm0_trump_1462 fm0_lead_1463 fm0_played_1464 fm0_firstWon_1465 fm0_secondWon_1466 fm0_steps_1467 fm0_kind_1468 fm0_entered_1469 am1341_1472 am1342_1475 am1343_1478 am1344_1481 am1345_1484 am1346_1487 am1347_1490 am1348_1493 am1349_1496 am13410_1499 am13411_1502 am13412_1505 am13413_1508 am13414_1511))) false))))))))
noncomputable def qm_LlawOf_97 (x4 x5 x6 : Nat) (k : Nat → Bool) (n : Nat) : Nat → Nat → Nat → Nat → Nat → Nat → Nat → Nat → Nat → Nat → Nat → Nat → Nat → Nat → Nat → Nat → Nat → Nat → Nat → Nat → Nat → Nat → Nat → Nat → Nat → Bool := Nat.rec (motive := fun _ => Nat → Nat → Nat → Nat → Nat → Nat → Nat → Nat → Nat → Nat → Nat → Nat → Nat → Nat → Nat → Nat → Nat → Nat → Nat → Nat → Nat → Nat → Nat → Nat → Nat → Bool) (fun _ _ _ _ _ _ _ _ _ _ _ _ _ _ _ _ _ _ _ _ _ _ _ _ _ => false) (fun _ J => qm_LlawOf_97_s x4 x5 x6 k J) n
theorem qt_LlawOf_97 {post : Int32 → St0 → Prop} {mc : Nat} {ms : Nat} {kc : Nat} {ks : Nat} {x4_i : Int32} {x4 : Nat} {x5_i : Int32} {x5 : Nat} {x6_i : Int32} {x6 : Nat} {k : Nat → Bool} (e_x4 : x4_i = nI x4) (e_x5 : x5_i = nI x5) (e_x6 : x6_i = nI x6) (hk : ∀ r : Nat, k r = true → post (nI r) ()) : ∀ (n : Nat) {x7_i : Int32} {x7 : Nat} {x8_i : Int32} {x8 : Nat} {fm0_on : Nat} {fm0_trump : Nat} {fm0_lead : Nat} {fm0_played : Nat} {fm0_firstWon : Nat} {fm0_secondWon : Nat} {fm0_steps : Nat} {fm0_kind : Nat} {fm0_entered : Nat} {am41 : Nat} {am42 : Nat} {am43 : Nat} {am44 : Nat} {am45 : Nat} {am46 : Nat} {am47 : Nat} {am48 : Nat} {am49 : Nat} {am410 : Nat} {am411 : Nat} {am412 : Nat} {am413 : Nat} {am414 : Nat} (e_x7 : x7_i = nI x7) (e_x8 : x8_i = nI x8), qm_LlawOf_97 x4 x5 x6 k n x7 x8 fm0_on fm0_trump fm0_lead fm0_played fm0_firstWon fm0_secondWon fm0_steps fm0_kind fm0_entered am41 am42 am43 am44 am45 am46 am47 am48 am49 am410 am411 am412 am413 am414 = true → wL_lawOf_97 post mc ms x4_i x5_i x6_i kc ks n x7_i x8_i (nI fm0_on) (nI fm0_trump) (nI fm0_lead) (nI fm0_played) (nI fm0_firstWon) (nI fm0_secondWon) (nI fm0_steps) (nI fm0_kind) (nI fm0_entered) (qo_ar am41) (qo_ar am42) (qo_ar am43) (qo_ar am44) (qo_ar am45) (qo_ar am46) (qo_ar am47) (qo_ar am48) (qo_ar am49) (qo_ar am410) (qo_ar am411) (qo_ar am412) (qo_aL am413) (qo_ar am414) := by
  subst e_x4
  subst e_x5
  subst e_x6
  intro n
  induction n with
  | zero =>
    intros
    exact qo_no (by assumption)
  | succ n ih =>
    intro x7_i x7 x8_i x8 fm0_on fm0_trump fm0_lead fm0_played fm0_firstWon fm0_secondWon fm0_steps fm0_kind fm0_entered am41 am42 am43 am44 am45 am46 am47 am48 am49 am410 am411 am412 am413 am414 e_x7 e_x8 h
    subst e_x7
    subst e_x8
    replace h : qm_LlawOf_97_s x4 x5 x6 k (qm_LlawOf_97 x4 x5 x6 k n) x7 x8 fm0_on fm0_trump fm0_lead fm0_played fm0_firstWon fm0_secondWon fm0_steps fm0_kind fm0_entered am41 am42 am43 am44 am45 am46 am47 am48 am49 am410 am411 am412 am413 am414 = true := h
    unfold qm_LlawOf_97_s at h
    refine qo_br (qo_i_le qo_k12 (qo_v x8)) h (fun h => ?_) (fun h => ?_)
    · refine qo_nm (qo_e_an (qo_e_ad (qo_v x5) qo_k3) qo_k3) h (fun x8_66 h => ?_)
      refine qo_br (qo_i_eq (qo_v x7) qo_k0) h (fun h => ?_) (fun h => ?_)
      · exact qo_no h
      · refine qo_br (qo_i_lt (qo_v x6) qo_k3) h (fun h => ?_) (fun h => ?_)
        · exact qt_LlawOf_192 (qo_v x4) (qo_v x5) (qo_v x6) (qo_v x8_66) hk h
        · rw [qo_fz_e] at h
          refine qt_p_deal qo_k0 (qo_e_an (qo_e_ad (qo_v x5) qo_k1) qo_k3) (fun r_1402 fm0_on_1403 fm0_trump_1404 fm0_lead_1405 fm0_played_1406 fm0_firstWon_1407 fm0_secondWon_1408 fm0_steps_1409 fm0_kind_1410 fm0_entered_1411 am1841_1414 am1842_1417 am1843_1420 am1844_1423 am1845_1426 am1846_1429 am1847_1432 am1848_1435 am1849_1438 am18410_1441 am18411_1444 am18412_1447 am18413_1450 am18414_1453 h => ?_) h
          refine qo_br (qo_i_eq (qo_v r_1402) qo_km2) h (fun h => ?_) (fun h => ?_)
          · exact qt_LlawOf_192 (qo_v x4) (qo_v x5) (qo_v x6) (qo_v x8_66) hk h
          · exact qo_no h
    · refine qo_nm (qo_e_an (qo_e_ad (qo_v x5) (qo_e_an (qo_v x8) qo_k3)) qo_k3) h (fun x9_1455 h => ?_)
      refine qo_br (qo_i_eq (qo_v x7) qo_k0) h (fun h => ?_) (fun h => ?_)
      · exact qo_no h
      · refine qo_br (qo_i_le (qo_e_mu qo_k4 (qo_v x6)) (qo_v x8)) h (fun h => ?_) (fun h => ?_)
        · refine qo_nm (qo_e_ad (qo_v x8) qo_k1) h (fun x8_1459 h => ?_)
          exact ih qo_k1 (qo_v x8_1459) h
        · refine qt_p_deal (qo_v x8) (qo_v x9_1455) (fun r_1460 fm0_on_1461 fm0_trump_1462 fm0_lead_1463 fm0_played_1464 fm0_firstWon_1465 fm0_secondWon_1466 fm0_steps_1467 fm0_kind_1468 fm0_entered_1469 am1341_1472 am1342_1475 am1343_1478 am1344_1481 am1345_1484 am1346_1487 am1347_1490 am1348_1493 am1349_1496 am13410_1499 am13411_1502 am13412_1505 am13413_1508 am13414_1511 h => ?_) h
          refine qo_br (qo_i_eq (qo_v r_1460) (qo_e_ad (qo_v x8) qo_k1)) h (fun h => ?_) (fun h => ?_)
          · refine qo_nm (qo_e_ad (qo_v x8) qo_k1) h (fun x8_1514 h => ?_)
            exact ih qo_k1 (qo_v x8_1514) h
          · exact qo_no h
noncomputable def qm_LlawOf_33_s (x4 x5 x6 : Nat) (k : Nat → Bool) (J : Nat → Nat → Nat → Nat → Nat → Nat → Nat → Nat → Nat → Nat → Nat → Nat → Nat → Nat → Nat → Nat → Nat → Nat → Nat → Nat → Nat → Nat → Nat → Nat → Nat → Bool) (x7 x8 fm0_on fm0_trump fm0_lead fm0_played fm0_firstWon fm0_secondWon fm0_steps fm0_kind fm0_entered am41 am42 am43 am44 am45 am46 am47 am48 am49 am410 am411 am412 am413 am414 : Nat) : Bool := (qo_if (qo_le 8 x8) (qm_LlawOf_97 x4 x5 x6 k 13 x7 8 fm0_on fm0_trump fm0_lead fm0_played fm0_firstWon fm0_secondWon fm0_steps fm0_kind fm0_entered am41 am42 am43 am44 am45 am46 am47 am48 am49 am410 am411 am412 am413 am414) (qo_fz (Nat.land (qo_ad x5 (Nat.land x8 3)) 3) (fun x9_1515 => (qo_if (qo_eq x7 0) false (qo_if (qo_le (qo_mu 4 x6) x8) (qo_fz (qo_ad x8 1) (fun x8_1519 => (J 1 x8_1519 fm0_on fm0_trump fm0_lead fm0_played fm0_firstWon fm0_secondWon fm0_steps fm0_kind fm0_entered am41 am42 am43 am44 am45 am46 am47 am48 am49 am410 am411 am412 am413 am414))) (qm_p_deal fm0_on fm0_trump fm0_lead fm0_played fm0_firstWon fm0_secondWon fm0_steps fm0_kind fm0_entered am41 am42 am43 am44 am45 am46 am47 am48 am49 am410 am411 am412 am413 am414 x8 x9_1515 (fun r_1520 fm0_on_1521 fm0_trump_1522 fm0_lead_1523 fm0_played_1524 fm0_firstWon_1525 fm0_secondWon_1526 fm0_steps_1527 fm0_kind_1528 fm0_entered_1529 am701_1532 am702_1535 am703_1538 am704_1541 am705_1544 am706_1547 am707_1550 am708_1553 am709_1556 am7010_1559 am7011_1562 am7012_1565 am7013_1568 am7014_1571 => (qo_if (qo_eq r_1520 (qo_ad x8 1)) (qo_fz (qo_ad x8 1) (fun x8_1574 => (J 1 x8_1574 fm0_on_1521 fm0_trump_1522 fm0_lead_1523 fm0_played_1524 fm0_firstWon_1525 fm0_secondWon_1526 fm0_steps_1527 fm0_kind_1528 fm0_entered_1529 am701_1532 am702_1535 am703_1538 am704_1541 am705_1544 am706_1547 am707_1550 am708_1553 am709_1556 am7010_1559 am7011_1562 am7012_1565 am7013_1568 am7014_1571))) false))))))))
noncomputable def qm_LlawOf_33 (x4 x5 x6 : Nat) (k : Nat → Bool) (n : Nat) : Nat → Nat → Nat → Nat → Nat → Nat → Nat → Nat → Nat → Nat → Nat → Nat → Nat → Nat → Nat → Nat → Nat → Nat → Nat → Nat → Nat → Nat → Nat → Nat → Nat → Bool := Nat.rec (motive := fun _ => Nat → Nat → Nat → Nat → Nat → Nat → Nat → Nat → Nat → Nat → Nat → Nat → Nat → Nat → Nat → Nat → Nat → Nat → Nat → Nat → Nat → Nat → Nat → Nat → Nat → Bool) (fun _ _ _ _ _ _ _ _ _ _ _ _ _ _ _ _ _ _ _ _ _ _ _ _ _ => false) (fun _ J => qm_LlawOf_33_s x4 x5 x6 k J) n
theorem qt_LlawOf_33 {post : Int32 → St0 → Prop} {mc : Nat} {ms : Nat} {kc : Nat} {ks : Nat} {x4_i : Int32} {x4 : Nat} {x5_i : Int32} {x5 : Nat} {x6_i : Int32} {x6 : Nat} {k : Nat → Bool} (e_x4 : x4_i = nI x4) (e_x5 : x5_i = nI x5) (e_x6 : x6_i = nI x6) (hk : ∀ r : Nat, k r = true → post (nI r) ()) : ∀ (n : Nat) {x7_i : Int32} {x7 : Nat} {x8_i : Int32} {x8 : Nat} {fm0_on : Nat} {fm0_trump : Nat} {fm0_lead : Nat} {fm0_played : Nat} {fm0_firstWon : Nat} {fm0_secondWon : Nat} {fm0_steps : Nat} {fm0_kind : Nat} {fm0_entered : Nat} {am41 : Nat} {am42 : Nat} {am43 : Nat} {am44 : Nat} {am45 : Nat} {am46 : Nat} {am47 : Nat} {am48 : Nat} {am49 : Nat} {am410 : Nat} {am411 : Nat} {am412 : Nat} {am413 : Nat} {am414 : Nat} (e_x7 : x7_i = nI x7) (e_x8 : x8_i = nI x8), qm_LlawOf_33 x4 x5 x6 k n x7 x8 fm0_on fm0_trump fm0_lead fm0_played fm0_firstWon fm0_secondWon fm0_steps fm0_kind fm0_entered am41 am42 am43 am44 am45 am46 am47 am48 am49 am410 am411 am412 am413 am414 = true → wL_lawOf_33 post mc ms x4_i x5_i x6_i kc ks n x7_i x8_i (nI fm0_on) (nI fm0_trump) (nI fm0_lead) (nI fm0_played) (nI fm0_firstWon) (nI fm0_secondWon) (nI fm0_steps) (nI fm0_kind) (nI fm0_entered) (qo_ar am41) (qo_ar am42) (qo_ar am43) (qo_ar am44) (qo_ar am45) (qo_ar am46) (qo_ar am47) (qo_ar am48) (qo_ar am49) (qo_ar am410) (qo_ar am411) (qo_ar am412) (qo_aL am413) (qo_ar am414) := by
  subst e_x4
  subst e_x5
  subst e_x6
  intro n
  induction n with
  | zero =>
    intros
    exact qo_no (by assumption)
  | succ n ih =>
    intro x7_i x7 x8_i x8 fm0_on fm0_trump fm0_lead fm0_played fm0_firstWon fm0_secondWon fm0_steps fm0_kind fm0_entered am41 am42 am43 am44 am45 am46 am47 am48 am49 am410 am411 am412 am413 am414 e_x7 e_x8 h
    subst e_x7
    subst e_x8
    replace h : qm_LlawOf_33_s x4 x5 x6 k (qm_LlawOf_33 x4 x5 x6 k n) x7 x8 fm0_on fm0_trump fm0_lead fm0_played fm0_firstWon fm0_secondWon fm0_steps fm0_kind fm0_entered am41 am42 am43 am44 am45 am46 am47 am48 am49 am410 am411 am412 am413 am414 = true := h
    unfold qm_LlawOf_33_s at h
    refine qo_br (qo_i_le qo_k8 (qo_v x8)) h (fun h => ?_) (fun h => ?_)
    · exact ⟨13, qt_LlawOf_97 (qo_v x4) (qo_v x5) (qo_v x6) hk _ (qo_v x7) qo_k8 h⟩
    · refine qo_nm (qo_e_an (qo_e_ad (qo_v x5) (qo_e_an (qo_v x8) qo_k3)) qo_k3) h (fun x9_1515 h => ?_)
      refine qo_br (qo_i_eq (qo_v x7) qo_k0) h (fun h => ?_) (fun h => ?_)
      · exact qo_no h
      · refine qo_br (qo_i_le (qo_e_mu qo_k4 (qo_v x6)) (qo_v x8)) h (fun h => ?_) (fun h => ?_)
        · refine qo_nm (qo_e_ad (qo_v x8) qo_k1) h (fun x8_1519 h => ?_)
          exact ih qo_k1 (qo_v x8_1519) h
        · refine qt_p_deal (qo_v x8) (qo_v x9_1515) (fun r_1520 fm0_on_1521 fm0_trump_1522 fm0_lead_1523 fm0_played_1524 fm0_firstWon_1525 fm0_secondWon_1526 fm0_steps_1527 fm0_kind_1528 fm0_entered_1529 am701_1532 am702_1535 am703_1538 am704_1541 am705_1544 am706_1547 am707_1550 am708_1553 am709_1556 am7010_1559 am7011_1562 am7012_1565 am7013_1568 am7014_1571 h => ?_) h
          refine qo_br (qo_i_eq (qo_v r_1520) (qo_e_ad (qo_v x8) qo_k1)) h (fun h => ?_) (fun h => ?_)
          · refine qo_nm (qo_e_ad (qo_v x8) qo_k1) h (fun x8_1574 h => ?_)
            exact ih qo_k1 (qo_v x8_1574) h
          · exact qo_no h
end
section
/-! the law mirrored at lead, own, each: 48 runs -/
noncomputable def qz_run (a b e : Nat) : Bool := qm_LlawOf_33 a b e (fun r => Nat.beq r 1) 9 1 0 0 0 0 0 0 0 0 0 0 0 0 0 0 0 0 0 0 0 0 0 0 0 0
theorem qz_c001 : qz_run 0 0 1 = true := by decide +kernel
theorem qz_c002 : qz_run 0 0 2 = true := by decide +kernel
theorem qz_c003 : qz_run 0 0 3 = true := by decide +kernel
theorem qz_c011 : qz_run 0 1 1 = true := by decide +kernel
theorem qz_c012 : qz_run 0 1 2 = true := by decide +kernel
theorem qz_c013 : qz_run 0 1 3 = true := by decide +kernel
theorem qz_c021 : qz_run 0 2 1 = true := by decide +kernel
theorem qz_c022 : qz_run 0 2 2 = true := by decide +kernel
theorem qz_c023 : qz_run 0 2 3 = true := by decide +kernel
theorem qz_c031 : qz_run 0 3 1 = true := by decide +kernel
theorem qz_c032 : qz_run 0 3 2 = true := by decide +kernel
theorem qz_c033 : qz_run 0 3 3 = true := by decide +kernel
theorem qz_c101 : qz_run 1 0 1 = true := by decide +kernel
theorem qz_c102 : qz_run 1 0 2 = true := by decide +kernel
theorem qz_c103 : qz_run 1 0 3 = true := by decide +kernel
theorem qz_c111 : qz_run 1 1 1 = true := by decide +kernel
theorem qz_c112 : qz_run 1 1 2 = true := by decide +kernel
theorem qz_c113 : qz_run 1 1 3 = true := by decide +kernel
theorem qz_c121 : qz_run 1 2 1 = true := by decide +kernel
theorem qz_c122 : qz_run 1 2 2 = true := by decide +kernel
theorem qz_c123 : qz_run 1 2 3 = true := by decide +kernel
theorem qz_c131 : qz_run 1 3 1 = true := by decide +kernel
theorem qz_c132 : qz_run 1 3 2 = true := by decide +kernel
theorem qz_c133 : qz_run 1 3 3 = true := by decide +kernel
theorem qz_c201 : qz_run 2 0 1 = true := by decide +kernel
theorem qz_c202 : qz_run 2 0 2 = true := by decide +kernel
theorem qz_c203 : qz_run 2 0 3 = true := by decide +kernel
theorem qz_c211 : qz_run 2 1 1 = true := by decide +kernel
theorem qz_c212 : qz_run 2 1 2 = true := by decide +kernel
theorem qz_c213 : qz_run 2 1 3 = true := by decide +kernel
theorem qz_c221 : qz_run 2 2 1 = true := by decide +kernel
theorem qz_c222 : qz_run 2 2 2 = true := by decide +kernel
theorem qz_c223 : qz_run 2 2 3 = true := by decide +kernel
theorem qz_c231 : qz_run 2 3 1 = true := by decide +kernel
theorem qz_c232 : qz_run 2 3 2 = true := by decide +kernel
theorem qz_c233 : qz_run 2 3 3 = true := by decide +kernel
theorem qz_c301 : qz_run 3 0 1 = true := by decide +kernel
theorem qz_c302 : qz_run 3 0 2 = true := by decide +kernel
theorem qz_c303 : qz_run 3 0 3 = true := by decide +kernel
theorem qz_c311 : qz_run 3 1 1 = true := by decide +kernel
theorem qz_c312 : qz_run 3 1 2 = true := by decide +kernel
theorem qz_c313 : qz_run 3 1 3 = true := by decide +kernel
theorem qz_c321 : qz_run 3 2 1 = true := by decide +kernel
theorem qz_c322 : qz_run 3 2 2 = true := by decide +kernel
theorem qz_c323 : qz_run 3 2 3 = true := by decide +kernel
theorem qz_c331 : qz_run 3 3 1 = true := by decide +kernel
theorem qz_c332 : qz_run 3 3 2 = true := by decide +kernel
theorem qz_c333 : qz_run 3 3 3 = true := by decide +kernel
end
section
theorem qz_all {a b e : Nat} (ha : a < 4) (hb : b < 4) (he : e < 3) : qz_run a b (1 + e) = true := by
  have ca : a = 0 ∨ a = 1 ∨ a = 2 ∨ a = 3 := by omega
  have cb : b = 0 ∨ b = 1 ∨ b = 2 ∨ b = 3 := by omega
  have ce : e = 0 ∨ e = 1 ∨ e = 2 := by omega
  rcases ca with rfl | rfl | rfl | rfl <;> rcases cb with rfl | rfl | rfl | rfl <;> rcases ce with rfl | rfl | rfl
  · exact qz_c001
  · exact qz_c002
  · exact qz_c003
  · exact qz_c011
  · exact qz_c012
  · exact qz_c013
  · exact qz_c021
  · exact qz_c022
  · exact qz_c023
  · exact qz_c031
  · exact qz_c032
  · exact qz_c033
  · exact qz_c101
  · exact qz_c102
  · exact qz_c103
  · exact qz_c111
  · exact qz_c112
  · exact qz_c113
  · exact qz_c121
  · exact qz_c122
  · exact qz_c123
  · exact qz_c131
  · exact qz_c132
  · exact qz_c133
  · exact qz_c201
  · exact qz_c202
  · exact qz_c203
  · exact qz_c211
  · exact qz_c212
  · exact qz_c213
  · exact qz_c221
  · exact qz_c222
  · exact qz_c223
  · exact qz_c231
  · exact qz_c232
  · exact qz_c233
  · exact qz_c301
  · exact qz_c302
  · exact qz_c303
  · exact qz_c311
  · exact qz_c312
  · exact qz_c313
  · exact qz_c321
  · exact qz_c322
  · exact qz_c323
  · exact qz_c331
  · exact qz_c332
  · exact qz_c333
theorem qz_1 (r : Nat) (h : Nat.beq r 1 = true) : nI r = 1 := by
  rw [Nat.eq_of_beq_eq_true h]
  rfl
theorem qz_cell {post : Int32 → Prop} {L : Nat} {xs : Nat → Int32} {p : Int32} (j : Nat) (hp : p = nI j) (hL : L ≤ 3) (hj : j < 3) (H : ∀ x, post x) : wpL_cellAt post L xs () p := by
  subst hp
  refine ⟨fun _ => H _, fun hc => ⟨?_, H _⟩⟩
  have hc' : ¬ nI L ≤ nI j := hc
  exact vp_in_nI (Nat.lt_of_not_le (fun z => hc' (nI_le z (by omega)))) (by omega)
theorem qz_3 : ∀ c, c < 4 → (1 : Int32) + (nI c - nI c / 3 * 3) = nI (1 + c % 3) := by decide +kernel
theorem qz_law {post : Int32 → St0 → Prop} {mc ms kc ks : Nat} (H : post 1 ()) {x4 x5 x6 : Int32} {a b c : Nat} (ha : a < 4) (hb : b < 4) (hc : c < 4) (e4 : x4 = nI a) (e5 : x5 = nI b) (e6 : x6 = nI (1 + c % 3)) {z : Nat → Int32} {zl : Nat → Int64} (ez : z = qo_ar 0) (el : zl = qo_aL 0) : ∃ n, wL_lawOf_33 post mc ms x4 x5 x6 kc ks n 1 0 0 0 0 0 0 0 0 0 0 z z z z z z z z z z z z zl z := by
  subst ez; subst el
  have hr : qz_run a b (1 + c % 3) = true := qz_all ha hb (Nat.mod_lt _ (by decide))
  exact ⟨9, qt_LlawOf_33 e4 e5 e6 (fun r hr => by rw [qz_1 r hr]; exact H) 9 qo_k1 qo_k0 hr⟩
theorem i_vc (xs : Nat → Int32) (L : Nat) (hL : L ≤ 3) : wpL_law (fun r => r = 1) L xs := by
  refine qz_cell 0 rfl hL (by decide) (fun x => ?_)
  refine qz_cell 1 rfl hL (by decide) (fun y => ?_)
  refine qz_cell 2 rfl hL (by decide) (fun w => ?_)
  refine ⟨3202, 51216, by decide, by decide, ?_⟩
  refine ⟨by decide, by decide, 14, 4267, by decide, by decide, ?_⟩
  refine ⟨by decide, by decide, by decide, by decide, by decide, by decide, by decide, by decide, by decide, by decide, by decide, by decide, by decide, by decide, by decide, by decide, by decide, by decide, by decide, by decide, by decide, by decide, by decide, by decide, by decide, by decide, by decide, by decide, ?_⟩
  intro x4 h4 x5 h5
  refine ⟨by decide, ?_⟩
  intro x6 h6
  obtain ⟨a, ha, ea⟩ := pk_andE x (m := 3) 2 (by decide)
  obtain ⟨b, hb, eb⟩ := pk_andE y (m := 3) 2 (by decide)
  obtain ⟨c, hc, ec⟩ := pk_andE w (m := 3) 2 (by decide)
  rw [ea] at h4
  rw [eb] at h5
  rw [ec, qz_3 c hc] at h6
  exact qz_law (by exact (rfl : (1 : Int32) = 1)) ha hb hc h4 h5 h6 qo_z qo_zL
end
