section
/-! from kit/laws/BITS.to-paste (a starting text) -/
theorem wb_tb (n : Nat) : (lN n).toBitVec = BitVec.ofNat 64 n := rfl
theorem wb_inj {a b : Int64} (h : a.toBitVec = b.toBitVec) : a = b := Int64.toBitVec_inj.mp h
theorem wb_tn {n : Nat} (h : n < 2 ^ 64) : (lN n).toBitVec.toNat = n := by rw [wb_tb, BitVec.toNat_ofNat, Nat.mod_eq_of_lt h]
theorem wb_c : ∀ k, k < 64 → ((nI k).toInt64 &&& 63) = lN k := by decide +kernel
theorem wb_sm : ∀ k, k < 64 → (BitVec.ofNat 64 k).smod 64 = BitVec.ofNat 64 k := by decide +kernel
theorem wb_lt2 {a b : Nat} (h : a < b) : 2 ^ a < 2 ^ b := Nat.pow_lt_pow_right (by decide) h
theorem wb_shl (n : Nat) {k : Nat} (hk : k < 64) : lN n <<< ((nI k).toInt64 &&& 63) = lN (n * 2 ^ k) := by
  rw [wb_c k hk]
  apply wb_inj
  rw [Int64.toBitVec_shiftLeft, wb_tb, wb_tb, wb_tb, wb_sm k hk]
  apply BitVec.eq_of_toNat_eq
  rw [BitVec.shiftLeft_eq', BitVec.toNat_shiftLeft, BitVec.toNat_ofNat, BitVec.toNat_ofNat, BitVec.toNat_ofNat, Nat.mod_eq_of_lt (show k < 2 ^ 64 by omega), Nat.shiftLeft_eq, Nat.mul_mod, Nat.mod_mod, ← Nat.mul_mod]
theorem wb_and {a b : Nat} (ha : a < 2 ^ 64) (hb : b < 2 ^ 64) : lN a &&& lN b = lN (a &&& b) := by
  apply wb_inj
  rw [Int64.toBitVec_and, wb_tb, wb_tb, wb_tb]
  apply BitVec.eq_of_toNat_eq
  rw [BitVec.toNat_and, BitVec.toNat_ofNat, BitVec.toNat_ofNat, BitVec.toNat_ofNat, Nat.mod_eq_of_lt ha, Nat.mod_eq_of_lt hb, Nat.mod_eq_of_lt (Nat.and_lt_two_pow _ hb)]
theorem wb_or {a b : Nat} (ha : a < 2 ^ 64) (hb : b < 2 ^ 64) : lN a ||| lN b = lN (a ||| b) := by
  apply wb_inj
  rw [Int64.toBitVec_or, wb_tb, wb_tb, wb_tb]
  apply BitVec.eq_of_toNat_eq
  rw [BitVec.toNat_or, BitVec.toNat_ofNat, BitVec.toNat_ofNat, BitVec.toNat_ofNat, Nat.mod_eq_of_lt ha, Nat.mod_eq_of_lt hb, Nat.mod_eq_of_lt (Nat.or_lt_two_pow ha hb)]
theorem wb_mask {n k : Nat} (hn : n < 2 ^ 64) (hk : k < 64) : lN n &&& lN (2 ^ k - 1) = lN (n % 2 ^ k) := by
  rw [wb_and hn (by have := wb_lt2 hk; omega), Nat.and_two_pow_sub_one_eq_mod]
theorem wb_a1 {n : Nat} (hn : n < 2 ^ 64) : lN n &&& 1 = lN (n % 2) := wb_mask (k := 1) hn (by decide)
theorem pf_lI {a : Nat} (h : a < 2 ^ 63) : (lN a).toInt = (a : Int) := lg_ofNat_toInt h
theorem pf_shr {a d : Nat} {D : Int64} (hD : (D.toBitVec.smod 64).toNat = d) (h : a < 2 ^ 62) : lN a >>> D = lN (a / 2 ^ d) := by
  have hd : a / 2 ^ d ≤ a := Nat.div_le_self _ _
  apply Int64.toInt_inj.mp
  have e : (lN a >>> D).toInt = (lN a).toInt >>> d := by
    rw [← hD]
    exact BitVec.toInt_sshiftRight ..
  rw [e, Int.shiftRight_eq_div_pow, pf_lI (by omega), pf_lI (by omega)]
  rfl
/-! rows of this claim -/
def rf_I (i : Int) : Int32 := Int32.ofInt i
def rf_L (i : Int) : Int64 := Int64.ofInt i
theorem rf_nI (n : Nat) : nI n = rf_I (n : Int) := Int32.ofInt_eq_ofNat.symm
theorem rf_lN (n : Nat) : lN n = rf_L (n : Int) := Int64.ofInt_eq_ofNat.symm
theorem rf_Iadd (a b : Int) : rf_I a + rf_I b = rf_I (a + b) := (Int32.ofInt_add a b).symm
theorem rf_Isub (a b : Int) : rf_I a - rf_I b = rf_I (a - b) := (Int32.ofInt_sub a b).symm
theorem rf_Ineg (a : Int) : -rf_I a = rf_I (-a) := (Int32.ofInt_neg a).symm
theorem rf_Ladd (a b : Int) : rf_L a + rf_L b = rf_L (a + b) := (Int64.ofInt_add a b).symm
theorem rf_Lsub (a b : Int) : rf_L a - rf_L b = rf_L (a - b) := (Int64.ofInt_sub a b).symm
theorem rf_Lmul (a b : Int) : rf_L a * rf_L b = rf_L (a * b) := (Int64.ofInt_mul a b).symm
theorem rf_Lneg (a : Int) : -rf_L a = rf_L (-a) := (Int64.ofInt_neg a).symm
theorem rf_It {a : Int} (h : -2147483648 ≤ a ∧ a < 2147483648) : (rf_I a).toInt = a := Int32.toInt_ofInt_of_le (by omega) (by omega)
theorem rf_Lt {a : Int} (h : -9223372036854775808 ≤ a ∧ a < 9223372036854775808) : (rf_L a).toInt = a := Int64.toInt_ofInt_of_le (by omega) (by omega)
theorem rf_I1 (a : Int) : rf_I a + 1 = rf_I (a + 1) := rf_Iadd a 1
theorem rf_I2 (a : Int) : rf_I a + 2 = rf_I (a + 2) := rf_Iadd a 2
theorem rf_IL {a : Int} (h : -2147483648 ≤ a ∧ a < 2147483648) : (rf_I a).toInt64 = rf_L a := by
  apply Int64.toInt_inj.mp
  rw [Int32.toInt_toInt64, rf_It h, rf_Lt (by omega)]
theorem rf_LI (a : Int) : (rf_L a).toInt32 = rf_I a := Int64.toInt32_ofInt
theorem rf_IleI {a b : Int} (ha : -2147483648 ≤ a ∧ a < 2147483648) (hb : -2147483648 ≤ b ∧ b < 2147483648) : rf_I a ≤ rf_I b ↔ a ≤ b := by
  rw [Int32.le_iff_toInt_le, rf_It ha, rf_It hb]
theorem rf_IltI {a b : Int} (ha : -2147483648 ≤ a ∧ a < 2147483648) (hb : -2147483648 ≤ b ∧ b < 2147483648) : rf_I a < rf_I b ↔ a < b := by
  rw [Int32.lt_iff_toInt_lt, rf_It ha, rf_It hb]
theorem rf_IeqI {a b : Int} (ha : -2147483648 ≤ a ∧ a < 2147483648) (hb : -2147483648 ≤ b ∧ b < 2147483648) : rf_I a = rf_I b ↔ a = b := by
  rw [← Int32.toInt_inj, rf_It ha, rf_It hb]
theorem rf_LleI {a b : Int} (ha : -9223372036854775808 ≤ a ∧ a < 9223372036854775808) (hb : -9223372036854775808 ≤ b ∧ b < 9223372036854775808) : rf_L a ≤ rf_L b ↔ a ≤ b := by
  rw [Int64.le_iff_toInt_le, rf_Lt ha, rf_Lt hb]
theorem rf_LltI {a b : Int} (ha : -9223372036854775808 ≤ a ∧ a < 9223372036854775808) (hb : -9223372036854775808 ≤ b ∧ b < 9223372036854775808) : rf_L a < rf_L b ↔ a < b := by
  rw [Int64.lt_iff_toInt_lt, rf_Lt ha, rf_Lt hb]
theorem rf_LeqI {a b : Int} (ha : -9223372036854775808 ≤ a ∧ a < 9223372036854775808) (hb : -9223372036854775808 ≤ b ∧ b < 9223372036854775808) : rf_L a = rf_L b ↔ a = b := by
  rw [← Int64.toInt_inj, rf_Lt ha, rf_Lt hb]
theorem rf_le {x y : Int32} {A B : Prop} (a b : Int) (f : a ≤ b → A) (g : b < a → B) (hx : x = rf_I a := by rfl) (hy : y = rf_I b := by rfl) (ha : -2147483648 ≤ a ∧ a < 2147483648 := by omega) (hb : -2147483648 ≤ b ∧ b < 2147483648 := by omega) : (x ≤ y → A) ∧ (¬ x ≤ y → B) := by
  subst hx hy
  rw [rf_IleI ha hb]
  exact ⟨f, fun z => g (by omega)⟩
theorem rf_lt {x y : Int32} {A B : Prop} (a b : Int) (f : a < b → A) (g : b ≤ a → B) (hx : x = rf_I a := by rfl) (hy : y = rf_I b := by rfl) (ha : -2147483648 ≤ a ∧ a < 2147483648 := by omega) (hb : -2147483648 ≤ b ∧ b < 2147483648 := by omega) : (x < y → A) ∧ (¬ x < y → B) := by
  subst hx hy
  rw [rf_IltI ha hb]
  exact ⟨f, fun z => g (by omega)⟩
theorem rf_eq {x y : Int32} {A B : Prop} (a b : Int) (f : a = b → A) (g : a ≠ b → B) (hx : x = rf_I a := by rfl) (hy : y = rf_I b := by rfl) (ha : -2147483648 ≤ a ∧ a < 2147483648 := by omega) (hb : -2147483648 ≤ b ∧ b < 2147483648 := by omega) : (x = y → A) ∧ (¬ x = y → B) := by
  subst hx hy
  rw [rf_IeqI ha hb]
  exact ⟨f, g⟩
theorem rf_Lle {x y : Int64} {A B : Prop} (a b : Int) (f : a ≤ b → A) (g : b < a → B) (hx : x = rf_L a := by rfl) (hy : y = rf_L b := by rfl) (ha : -9223372036854775808 ≤ a ∧ a < 9223372036854775808 := by omega) (hb : -9223372036854775808 ≤ b ∧ b < 9223372036854775808 := by omega) : (x ≤ y → A) ∧ (¬ x ≤ y → B) := by
  subst hx hy
  rw [rf_LleI ha hb]
  exact ⟨f, fun z => g (by omega)⟩
theorem rf_Llt {x y : Int64} {A B : Prop} (a b : Int) (f : a < b → A) (g : b ≤ a → B) (hx : x = rf_L a := by rfl) (hy : y = rf_L b := by rfl) (ha : -9223372036854775808 ≤ a ∧ a < 9223372036854775808 := by omega) (hb : -9223372036854775808 ≤ b ∧ b < 9223372036854775808 := by omega) : (x < y → A) ∧ (¬ x < y → B) := by
  subst hx hy
  rw [rf_LltI ha hb]
  exact ⟨f, fun z => g (by omega)⟩
theorem rf_Leq {x y : Int64} {A B : Prop} (a b : Int) (f : a = b → A) (g : a ≠ b → B) (hx : x = rf_L a := by rfl) (hy : y = rf_L b := by rfl) (ha : -9223372036854775808 ≤ a ∧ a < 9223372036854775808 := by omega) (hb : -9223372036854775808 ≤ b ∧ b < 9223372036854775808 := by omega) : (x = y → A) ∧ (¬ x = y → B) := by
  subst hx hy
  rw [rf_LeqI ha hb]
  exact ⟨f, g⟩
/-- longs that are naturals -/
theorem rf_leq {x y : Int64} {A B : Prop} (a b : Nat) (f : a = b → A) (g : a ≠ b → B) (hx : x = lN a := by rfl) (hy : y = lN b := by rfl) (ha : a < 2 ^ 63 := by omega) (hb : b < 2 ^ 63 := by omega) : (x = y → A) ∧ (¬ x = y → B) := by
  subst hx hy
  rw [pk_lEQ ha hb]
  exact ⟨f, g⟩
theorem rf_llt {x y : Int64} {A B : Prop} (a b : Nat) (f : a < b → A) (g : b ≤ a → B) (hx : x = lN a := by rfl) (hy : y = lN b := by rfl) (ha : a < 2 ^ 63 := by omega) (hb : b < 2 ^ 63 := by omega) : (x < y → A) ∧ (¬ x < y → B) := by
  subst hx hy
  rw [pk_lLT ha hb]
  exact ⟨f, fun z => g (by omega)⟩
/-- shifts -/
theorem rf_shl (a : Int) {k : Nat} (hk : k < 64) : rf_L a <<< ((rf_I (k : Int)).toInt64 &&& 63) = rf_L (a * ((2 ^ k : Nat) : Int)) := by
  rw [← rf_nI, wb_c k hk]
  apply wb_inj
  rw [Int64.toBitVec_shiftLeft, wb_tb, wb_sm k hk]
  show BitVec.ofInt 64 a <<< BitVec.ofNat 64 k = BitVec.ofInt 64 (a * ((2 ^ k : Nat) : Int))
  rw [BitVec.shiftLeft_eq', BitVec.toNat_ofNat, Nat.mod_eq_of_lt (show k < 2 ^ 64 by omega), BitVec.ofInt_mul, BitVec.shiftLeft_eq_mul_twoPow, BitVec.ofInt_natCast]
  congr 1
  apply BitVec.eq_of_toNat_eq
  rw [BitVec.toNat_twoPow, BitVec.toNat_ofNat]
theorem rf_shlx (a : Int) {k : Nat} {x : Int32} (hk : k < 64) (hx : x = rf_I (k : Int)) : rf_L a <<< (x.toInt64 &&& 63) = rf_L (a * ((2 ^ k : Nat) : Int)) := by
  subst hx
  exact rf_shl a hk
theorem rf_shr {m k : Nat} (hm : m < 2 ^ 62) (hk : k < 64) : lN m >>> ((nI k).toInt64 &&& 63) = lN (m / 2 ^ k) := by
  rw [wb_c k hk]
  exact pf_shr (by rw [wb_tb, wb_sm k hk, BitVec.toNat_ofNat, Nat.mod_eq_of_lt (by omega)]) hm
theorem rf_one {k : Nat} (hk : k < 64) : (1 : Int64) <<< ((nI k).toInt64 &&& 63) = lN (2 ^ k) := by
  have h := wb_shl 1 hk
  rw [Nat.one_mul] at h
  exact h
theorem rf_one1 {k : Nat} (hk : k < 64) : (1 : Int64) <<< ((nI k).toInt64 &&& 63) - 1 = lN (2 ^ k - 1) := by
  rw [rf_one hk]
  exact lN_sub (Nat.pow_pos (by decide))
/-- powers -/
theorem rf_pa (a b : Nat) : 2 ^ (a + b) = 2 ^ a * 2 ^ b := Nat.pow_add 2 a b
theorem rf_pp (a : Nat) : 0 < 2 ^ a := Nat.pow_pos (by decide)
theorem rf_pm {a b : Nat} (h : a ≤ b) : 2 ^ a ≤ 2 ^ b := Nat.pow_le_pow_right (by decide) h
theorem rf_plt {a b : Nat} (h : 2 ^ a < 2 ^ b) : a < b := Nat.lt_of_not_le (fun z => absurd (rf_pm z) (Nat.not_le.mpr h))
/-- bit length -/
def rf_bl (m : Nat) : Nat := if m = 0 then 0 else m.log2 + 1
theorem rf_bl_iff (m n : Nat) : rf_bl m ≤ n ↔ m < 2 ^ n := by
  unfold rf_bl
  by_cases h : m = 0
  · rw [if_pos h, h]
    exact ⟨fun _ => rf_pp n, fun _ => Nat.zero_le n⟩
  · rw [if_neg h]
    exact Nat.log2_lt h
theorem rf_bl_lt (m : Nat) : m < 2 ^ rf_bl m := (rf_bl_iff m _).mp (Nat.le_refl _)
theorem rf_bl_ge {m j : Nat} (h : j < rf_bl m) : 2 ^ j ≤ m := Nat.le_of_not_lt (fun z => absurd ((rf_bl_iff m j).mpr z) (by omega))
theorem rf_bl_0 {m : Nat} (h : rf_bl m = 0) : m = 0 := by
  have := rf_bl_lt m
  rw [h] at this
  omega
theorem rf_bl_pos {m : Nat} (h : m ≠ 0) : 0 < rf_bl m := Nat.pos_of_ne_zero (fun z => h (rf_bl_0 z))
end
section
/-- one register: g is its value times 2^12 -/
def rf_R (p : Nat) (g : Int) (m e : Int32) : Prop := ∃ (M : Int) (t : Nat), m = rf_I M ∧ e = rf_I ((t : Int) - 12) ∧ g = M * ((2 ^ t : Nat) : Int) ∧ M.natAbs < 2 ^ p ∧ M.natAbs * 2 ^ t < 2 ^ (p + 23) ∧ ((M = 0 ∧ t = 12) ∨ M % 2 = 1)
def rf_s (neg : Int32) : Int := if neg = 0 then 1 else -1
theorem rf_s0 {neg : Int32} (h : neg = 0) : rf_s neg = 1 := if_pos h
theorem rf_s1 {neg : Int32} (h : ¬ neg = 0) : rf_s neg = -1 := if_neg h
/-- bitsOf -/
theorem rf_bits2 {post : Int32 → Prop} {m : Nat} (hm : m < 2 ^ 62) (H : post (nI (rf_bl m))) : ∀ n i : Nat, i + n = rf_bl m → wX_bitsOf_2 post (lN m) (n + 1) (nI i) := by
  have hb : rf_bl m ≤ 62 := (rf_bl_iff m 62).mpr hm
  intro n
  induction n with
  | zero =>
    intro i hi
    have hi' : i = rf_bl m := by omega
    subst hi'
    refine pk_le 62 (rf_bl m) (fun _ => H) (fun z => ?_)
    rw [rf_shr hm (by omega), Nat.div_eq_of_lt (rf_bl_lt m)]
    exact br_t rfl H
  | succ n ih =>
    intro i hi
    refine pk_le 62 i (fun z => absurd z (by omega)) (fun z => ?_)
    have hd : 0 < m / 2 ^ i := Nat.div_pos (rf_bl_ge (by omega)) (rf_pp i)
    have hl : m / 2 ^ i ≤ m := Nat.div_le_self _ _
    rw [rf_shr hm (by omega)]
    exact rf_leq (m / 2 ^ i) 0 (fun z => absurd z (by omega)) (fun _ => nm_r (nI_1 i) (ih (i + 1) (by omega)))
theorem rf_bits {post : Int32 → Prop} {m : Nat} (hm : m < 2 ^ 62) (H : post (nI (rf_bl m))) : wpX_bitsOf post () (lN m) :=
  ⟨rf_bl m + 1, rf_bits2 hm H (rf_bl m) 0 (by omega)⟩
/-- store -/
theorem rf_st48 {post : St1 → Prop} {f0 f1 f2 : Int32} {a1 a2 : Nat → Int32} {r K : Nat} {neg x8 : Int32} (hr : r < 4) (hK : K < 2 ^ 62)
    (H : post (f0, f1, f2, upd a1 r (rf_I (rf_s neg * (K : Int))), upd a2 r (if K = 0 then 0 else x8))) :
    wX_store_48 post (nI r) neg (lN K) x8 f0 f1 f2 a1 a2 := by
  have hc : (nI r).toNatClampNeg = r := nI_clamp (by omega)
  have hi : vp_in (nI r) 4 := vp_in_nI hr (by omega)
  have h65 : ∀ z0 : Int64, z0.toInt32 = rf_I (rf_s neg * (K : Int)) → wX_store_65 post (nI r) (lN K) x8 z0 (nI r) f0 f1 f2 a1 a2 := by
    intro z0 hz
    unfold wX_store_65
    rw [hc, hz]
    by_cases h0 : K = 0
    · rw [if_pos h0] at H
      exact ⟨hi, nm_e (br_t (by rw [h0]; rfl) ⟨hi, nm_e H⟩)⟩
    · rw [if_neg h0] at H
      have hn : ¬ lN K = 0 := fun z => h0 ((pk_lEQ (by omega) (by omega)).mp (z : lN K = lN 0))
      exact ⟨hi, nm_e (br_f hn ⟨hi, nm_e H⟩)⟩
  unfold wX_store_48
  by_cases hn : neg = 0
  · exact br_t hn (h65 _ (by rw [rf_s0 hn, Int.one_mul, rf_lN, rf_LI]))
  · exact br_f hn (h65 _ (by rw [rf_s1 hn, rf_lN, rf_Lneg, rf_LI, Int.neg_mul, Int.one_mul]))
theorem rf_st10 {post : St1 → Prop} {f0 f1 f2 : Int32} {a1 a2 : Nat → Int32} {r : Nat} {neg : Int32} (hr : r < 4) :
    ∀ (n K t k : Nat), K < 2 ^ n → k + n ≤ 62 →
     (∀ O j : Nat, O * 2 ^ j = K → ((O = 0) ∨ O % 2 = 1) → post (f0, f1, f2, upd a1 r (rf_I (rf_s neg * (O : Int))), upd a2 r (if O = 0 then 0 else rf_I (((t + j : Nat) : Int) - 12)))) →
     wX_store_10 post (nI r) neg f0 f1 f2 a1 a2 (n + 1) (lN K) (rf_I ((t : Int) - 12)) (nI k) := by
  intro n
  induction n with
  | zero =>
    intro K t k hK hk H
    have h0 : K = 0 := by omega
    have h48 : wX_store_48 post (nI r) neg (lN K) (rf_I ((t : Int) - 12)) f0 f1 f2 a1 a2 := rf_st48 hr (by omega) (H K 0 (by omega) (Or.inl h0))
    exact pk_le 62 k (fun _ => h48) (fun _ => br_t (by rw [h0]; rfl) h48)
  | succ n ih =>
    intro K t k hK hk H
    have hK2 : K < 2 ^ 62 := Nat.lt_of_lt_of_le hK (rf_pm (by omega))
    refine pk_le 62 k (fun z => absurd z (by omega)) (fun _ => ?_)
    by_cases h0 : K = 0
    · exact br_t (by rw [h0]; rfl) (rf_st48 hr hK2 (H K 0 (by omega) (Or.inl h0)))
    · refine br_f (fun z => h0 ((pk_lEQ (by omega) (by omega)).mp (z : lN K = lN 0))) ?_
      rw [wb_a1 (by omega)]
      refine rf_leq (K % 2) 0 (fun z => ?_) (fun z => rf_st48 hr hK2 (H K 0 (by omega) (Or.inr (by omega))))
      refine nm_r (rf_shr hK2 (k := 1) (by omega)) (nm_r (rf_I1 _) (nm_r (nI_1 k) ?_))
      have e1 : (t : Int) - 12 + 1 = ((t + 1 : Nat) : Int) - 12 := by omega
      rw [e1]
      refine ih (K / 2 ^ 1) (t + 1) (k + 1) (by rw [Nat.pow_succ] at hK; omega) (by omega) (fun O j hO ho => ?_)
      have e2 : t + 1 + j = t + (j + 1) := by omega
      rw [e2]
      refine H O (j + 1) ?_ ho
      rw [Nat.pow_succ, ← Nat.mul_assoc, hO]
      omega
theorem rf_store {post : St1 → Prop} {f0 f1 f2 neg : Int32} {a1 a2 : Nat → Int32} {r p K t : Nat} (hr : r < 4) (hp : 1 ≤ p) (hp2 : p ≤ 10) (hK : K ≤ 2 ^ p) (hG : K * 2 ^ t < 2 ^ (p + 23))
    (H : ∀ m e : Int32, rf_R p (rf_s neg * ((K * 2 ^ t : Nat) : Int)) m e → post (f0, f1, f2, upd a1 r m, upd a2 r e)) :
    wpX_store post (f0, f1, f2, a1, a2) (nI r) neg (lN K) (rf_I ((t : Int) - 12)) := by
  have hK11 : K < 2 ^ 11 := Nat.lt_of_le_of_lt hK (Nat.lt_of_le_of_lt (rf_pm hp2) (by decide))
  refine ⟨12, rf_st10 hr 11 K t 0 hK11 (by omega) (fun O j hO ho => H _ _ ?_)⟩
  by_cases h0 : O = 0
  · rw [if_pos h0]
    have hK0 : K = 0 := by rw [← hO, h0, Nat.zero_mul]
    refine ⟨0, 12, ?_, rfl, ?_, ?_, ?_, Or.inl ⟨rfl, rfl⟩⟩
    · rw [h0]
      show rf_I (rf_s neg * 0) = rf_I 0
      rw [Int.mul_zero]
    · rw [hK0, Nat.zero_mul]
      show rf_s neg * 0 = 0 * _
      rw [Int.mul_zero, Int.zero_mul]
    · exact rf_pp p
    · show 0 * _ < _
      rw [Nat.zero_mul]
      exact rf_pp _
  · rw [if_neg h0]
    have ho' : O % 2 = 1 := by
      rcases ho with h | h
      · exact absurd h h0
      · exact h
    have hs : (rf_s neg * (O : Int)).natAbs = O := by
      unfold rf_s
      by_cases hn : neg = 0
      · rw [if_pos hn]; omega
      · rw [if_neg hn]; omega
    have hpo : 2 ^ p % 2 = 0 := by
      obtain ⟨q, rfl⟩ : ∃ q, p = q + 1 := ⟨p - 1, by omega⟩
      rw [Nat.pow_succ]
      omega
    have hOp : O < 2 ^ p := by
      cases j with
      | zero =>
        rw [Nat.pow_zero, Nat.mul_one] at hO
        omega
      | succ j =>
        have h1 : O * 2 ≤ K := by
          rw [← hO, Nat.pow_succ, ← Nat.mul_assoc]
          exact Nat.mul_le_mul_right 2 (Nat.le_mul_of_pos_right O (rf_pp j))
        omega
    have hG2 : O * 2 ^ (t + j) = K * 2 ^ t := by
      rw [← hO, Nat.mul_assoc, ← rf_pa, Nat.add_comm t j]
    refine ⟨rf_s neg * (O : Int), t + j, rfl, rfl, ?_, ?_, ?_, Or.inr ?_⟩
    · rw [← hG2, Int.mul_assoc]
      congr 1
    · rw [hs]; exact hOp
    · rw [hs, hG2]; exact hG
    · unfold rf_s
      by_cases hn : neg = 0
      · rw [if_pos hn]; omega
      · rw [if_neg hn]; omega
/-- limit, invalid -/
theorem rf_limG {p : Nat} (hp2 : p ≤ 10) : (2 ^ p - 1) * 2 ^ 23 < 2 ^ (p + 23) := by
  rw [rf_pa]
  exact Nat.mul_lt_mul_of_pos_right (by have := rf_pp p; omega) (rf_pp 23)
theorem rf_limit {post : Int32 → St1 → Prop} {f1 f2 neg : Int32} {a1 a2 : Nat → Int32} {r p : Nat} (hr : r < 4) (hp : 2 ≤ p) (hp2 : p ≤ 10)
    (H : ∀ fl m e : Int32, rf_R p (rf_s neg * (((2 ^ p - 1) * 2 ^ 23 : Nat) : Int)) m e → post 3 (nI p, f1, fl, upd a1 r m, upd a2 r e)) :
    wpX_limit post (nI p, f1, f2, a1, a2) (nI r) neg := by
  unfold wpX_limit
  dsimp only
  rw [rf_one1 (show p < 64 by omega)]
  exact rf_store (t := 23) hr (by omega) hp2 (Nat.sub_le _ _) (rf_limG hp2) (fun m e h => nm_e (H _ m e h))
theorem rf_invalid {post : Int32 → St1 → Prop} {f0 f1 f2 : Int32} {a1 a2 : Nat → Int32} {r p : Nat} (hr : r < 4) (hp : 2 ≤ p) (hp2 : p ≤ 10)
    (H : ∀ fl m e : Int32, rf_R p 0 m e → post 4 (f0, f1, fl, upd a1 r m, upd a2 r e)) :
    wpX_invalid post (f0, f1, f2, a1, a2) (nI r) := by
  unfold wpX_invalid
  dsimp only
  refine rf_store (p := p) (K := 0) (t := 12) (neg := 0) hr (by omega) hp2 (Nat.zero_le _) (by rw [Nat.zero_mul]; exact rf_pp _) (fun m e h => nm_e (H _ m e ?_))
  rw [Nat.zero_mul] at h
  have h' : rf_R p (rf_s 0 * 0) m e := h
  rw [Int.mul_zero] at h'
  exact h'
end
section
/-- what goesAway may answer in a mode -/
def rf_A (md : Nat) (neg : Int32) (w : Nat) : Prop := w ≤ 1 ∧ (md = 1 → w = if neg = 0 then 0 else 1) ∧ (md = 2 → w = if neg = 0 then 1 else 0) ∧ (md = 3 → w = 0)
/-- a mode's result, among the two neighbours -/
def rf_O (md : Nat) (lo hi z v : Int) : Prop := (v = lo ∨ v = hi) ∧ (md = 1 → v = lo) ∧ (md = 2 → v = hi) ∧ (md = 3 → v = z)
/-- flags and the two neighbours -/
def rf_Q (F : Int32) (lo hi z : Int) : Prop := lo ≤ hi ∧ (z = lo ∨ z = hi) ∧ ((F &&& 1) = 0 → lo = hi) ∧ ((F &&& 2) = 0 ∨ ¬ (F &&& 1) = 0)
theorem rf_Os (md : Nat) (v : Int) : rf_O md v v v v := ⟨Or.inl rfl, fun _ => rfl, fun _ => rfl, fun _ => rfl⟩
theorem rf_Q0 (v : Int) : rf_Q 0 v v v := ⟨Int.le_refl v, Or.inl rfl, fun _ => rfl, Or.inl (by decide)⟩
theorem rf_Q3 (v : Int) : rf_Q 3 v v v := ⟨Int.le_refl v, Or.inl rfl, fun _ => rfl, Or.inr (by decide)⟩
theorem rf_Q4 (v : Int) : rf_Q 4 v v v := ⟨Int.le_refl v, Or.inl rfl, fun _ => rfl, Or.inl (by decide)⟩
theorem rf_Oa {md w : Nat} {neg : Int32} {X Y v : Int} (h : rf_A md neg w) (hv : v = rf_s neg * (if w = 0 then X else Y)) :
    rf_O md (if neg = 0 then X else -Y) (if neg = 0 then Y else -X) (if neg = 0 then X else -X) v := by
  obtain ⟨h1, h2, h3, h4⟩ := h
  by_cases hn : neg = 0
  · rw [rf_s0 hn, Int.one_mul] at hv
    simp only [if_pos hn] at h2 h3 ⊢
    by_cases hw : w = 0
    · rw [if_pos hw] at hv
      exact ⟨Or.inl hv, fun _ => hv, fun z => absurd (h3 z) (by omega), fun _ => hv⟩
    · rw [if_neg hw] at hv
      exact ⟨Or.inr hv, fun z => absurd (h2 z) hw, fun _ => hv, fun z => absurd (h4 z) hw⟩
  · rw [rf_s1 hn] at hv
    simp only [if_neg hn] at h2 h3 ⊢
    by_cases hw : w = 0
    · rw [if_pos hw] at hv
      have hv' : v = -X := by omega
      exact ⟨Or.inr hv', fun z => absurd (h2 z) (by omega), fun _ => hv', fun _ => hv'⟩
    · rw [if_neg hw] at hv
      have hv' : v = -Y := by omega
      exact ⟨Or.inl hv', fun _ => hv', fun z => absurd (h3 z) hw, fun z => absurd (h4 z) hw⟩
theorem rf_Q1 {neg : Int32} {X Y : Int} (h : X ≤ Y) : rf_Q 1 (if neg = 0 then X else -Y) (if neg = 0 then Y else -X) (if neg = 0 then X else -X) := by
  by_cases hn : neg = 0
  · simp only [if_pos hn]
    exact ⟨h, Or.inl rfl, fun z => absurd z (by decide), Or.inl (by decide)⟩
  · simp only [if_neg hn]
    exact ⟨by omega, Or.inr rfl, fun z => absurd z (by decide), Or.inl (by decide)⟩
/-- goesAway -/
theorem rf_goes {post : Int32 → Prop} {f0 f2 : Int32} {a1 a2 : Nat → Int32} {md : Nat} (hmd : md < 4) {neg odd more cut : Int32} {lost : Int64}
    (H : ∀ w : Nat, rf_A md neg w → post (nI w)) : wpX_goesAway post (f0, nI md, f2, a1, a2) neg odd lost cut more := by
  have G : md ≠ 0 → (md = 2 → ¬ neg = 0) → wX_goesAway_65 post neg f0 (nI md) f2 a1 a2 := by
    intro h0 h2
    unfold wX_goesAway_65
    refine pk_eq md 1 (fun z => br_c (fun hn => H 0 ⟨by omega, fun _ => (if_pos hn).symm, fun y => absurd y (by omega), fun _ => rfl⟩) (fun hn => H 1 ⟨by omega, fun _ => (if_neg hn).symm, fun y => absurd y (by omega), fun y => absurd y (by omega)⟩)) (fun z => H 0 ⟨by omega, fun y => absurd y z, fun y => (if_neg (h2 y)).symm, fun _ => rfl⟩)
  refine pk_eq md 0 (fun z => ?_) (fun z => pk_eq md 2 (fun z2 => br_c (fun hn => H 1 ⟨by omega, fun y => absurd y (by omega), fun _ => (if_pos hn).symm, fun y => absurd y (by omega)⟩) (fun hn => G z (fun _ => hn))) (fun z2 => G z (fun y => absurd y z2)))
  have P0 : post 0 := H 0 ⟨by omega, fun y => absurd y (by omega), fun y => absurd y (by omega), fun _ => rfl⟩
  have P1 : post 1 := H 1 ⟨by omega, fun y => absurd y (by omega), fun y => absurd y (by omega), fun y => absurd y (by omega)⟩
  exact ⟨fun _ x _ => ⟨fun _ => P1, fun _ => ⟨fun _ => ⟨fun _ => ⟨fun _ => P0, fun _ => P1⟩, fun _ => P1⟩, fun _ => P0⟩⟩, fun _ => P0⟩
/-- round, from its end -/
theorem rf_r211 {post : Int32 → St1 → Prop} {p r K T : Nat} {neg f1 f2 : Int32} {a1 a2 : Nat → Int32} (hr : r < 4) (hp : 2 ≤ p) (hp2 : p ≤ 10) (hK : K ≤ 2 ^ p) (hG : K * 2 ^ T < 2 ^ (p + 23))
    (H : ∀ fl m e : Int32, rf_R p (rf_s neg * ((K * 2 ^ T : Nat) : Int)) m e → post 1 (nI p, f1, fl, upd a1 r m, upd a2 r e)) :
    wX_round_211 post (rf_I ((T : Int) - 12)) (lN K) neg (nI r) (nI p) f1 f2 a1 a2 :=
  rf_store hr (by omega) hp2 hK hG (fun m e h => nm_e (H _ m e h))
theorem rf_r183 {post : Int32 → St1 → Prop} {p r K T md : Nat} {neg more cut odd f2 : Int32} {lost : Int64} {a1 a2 : Nat → Int32} (hr : r < 4) (hp : 2 ≤ p) (hp2 : p ≤ 10) (hmd : md < 4) (hK : K + 1 ≤ 2 ^ p) (hG : (K + 1) * 2 ^ T < 2 ^ (p + 23))
    (H : ∀ (w : Nat) (fl m e : Int32), rf_A md neg w → rf_R p (rf_s neg * (((K + w) * 2 ^ T : Nat) : Int)) m e → post 1 (nI p, nI md, fl, upd a1 r m, upd a2 r e)) :
    wX_round_183 post (nI r) neg more (rf_I ((T : Int) - 12)) cut (lN K) lost odd neg (nI p) (nI md) f2 a1 a2 := by
  unfold wX_round_183
  refine rf_goes hmd (fun w hw => ?_)
  have hw1 : w ≤ 1 := hw.1
  refine pk_eq w 0 (fun z => rf_r211 hr hp hp2 (by omega) ?_ (fun fl m e h => H w fl m e hw (by rw [z]; exact h))) (fun z => ?_)
  · exact Nat.lt_of_le_of_lt (Nat.mul_le_mul_right _ (by omega)) hG
  · rw [lN_1]
    exact rf_r211 hr hp hp2 hK hG (fun fl m e h => H w fl m e hw (by rw [show w = 1 by omega]; exact h))
theorem rf_r55 {post : Int32 → St1 → Prop} {p r m c : Nat} {E u : Int} {neg more f1 f2 : Int32} {a1 a2 : Nat → Int32} (hm : m < 2 ^ 60) (hc0 : 0 < c) (hc : c ≤ 60) (hu : u - E = (c : Int))
    (H : wX_round_113 post (nI r) neg more (rf_I u) (nI c) (lN (m / 2 ^ c)) (lN (m % 2 ^ c)) (nI p) f1 f2 a1 a2) :
    wX_round_55 post (nI r) neg (lN m) (rf_I E) more (rf_I u) (nI p) f1 f2 a1 a2 := by
  unfold wX_round_55
  refine nm_r (e' := nI c) (by rw [rf_Isub, hu, rf_nI]) ?_
  refine pk_lt 0 c (fun _ => pk_le c 60 (fun _ => ?_) (fun z => absurd z (by omega))) (fun z => absurd z (by omega))
  rw [rf_shr (by omega) (by omega)]
  unfold wX_round_93
  refine pk_le c 60 (fun _ => ?_) (fun z => absurd z (by omega))
  rw [wb_shl _ (show c < 64 by omega), lN_sub (Nat.div_mul_le_self m (2 ^ c))]
  have e : m - m / 2 ^ c * 2 ^ c = m % 2 ^ c := by
    have := Nat.div_add_mod' m (2 ^ c)
    omega
  rw [e]
  exact H
theorem rf_r33 {post : Int32 → St1 → Prop} {p r m : Nat} {E u : Int} {neg more f1 f2 : Int32} {a1 a2 : Nat → Int32} (hp2 : p ≤ 10) (hm : m < 2 ^ 60) (hE : -72 ≤ E ∧ E ≤ 60)
    (hu : (u = (rf_bl m : Int) + E - p ∧ -12 ≤ u) ∨ (u = -12 ∧ (rf_bl m : Int) + E - p < -12))
    (H : wX_round_33 post (nI r) neg (lN m) (rf_I E) more (rf_I u) (nI p) f1 f2 a1 a2) :
    wpX_round post (nI p, f1, f2, a1, a2) (nI r) neg (lN m) (rf_I E) more := by
  have hb : rf_bl m ≤ 60 := (rf_bl_iff m 60).mpr hm
  unfold wpX_round
  dsimp only
  refine rf_bits (by omega) (nm_r (e' := rf_I ((rf_bl m : Int) + E)) (by rw [rf_nI, rf_Iadd]) ?_)
  have e : rf_I ((rf_bl m : Int) + E) - nI p = rf_I ((rf_bl m : Int) + E - p) := by rw [rf_nI, rf_Isub]
  rw [e]
  refine rf_le (-12) ((rf_bl m : Int) + E - p) (fun z => ?_) (fun z => ?_)
  · have e1 : u = (rf_bl m : Int) + E - p := by omega
    rw [e1] at H
    exact H
  · have e1 : u = -12 := by omega
    rw [e1] at H
    exact H
end
section
/-- everything in round that isn't the mode -/
def rf_P (p : Nat) (F : Int32) (lo hi z : Int) (W : Nat → (Int32 → St1 → Prop) → St1 → Prop) : Prop :=
  ∀ (r md : Nat) (f2 : Int32) (a1 a2 : Nat → Int32) (post : Int32 → St1 → Prop), r < 4 → md < 4 →
    (∀ (v : Int) (fl m' e' : Int32), rf_O md lo hi z v → rf_R p v m' e' → post F (nI p, nI md, fl, upd a1 r m', upd a2 r e')) → W r post (nI p, nI md, f2, a1, a2)
theorem rf_kept {m b p c : Nat} (hb : m < 2 ^ b) (h : b ≤ p + c) : m / 2 ^ c < 2 ^ p := by
  apply Nat.div_lt_of_lt_mul
  rw [← rf_pa, Nat.add_comm c p]
  exact Nat.lt_of_lt_of_le hb (rf_pm h)
theorem rf_keptG {K p T : Nat} (hK : K < 2 ^ p) (hT : T ≤ 23) : K * 2 ^ T < 2 ^ (p + 23) := by
  rw [rf_pa]
  exact Nat.lt_of_le_of_lt (Nat.mul_le_mul_left K (rf_pm hT)) (Nat.mul_lt_mul_of_pos_right hK (rf_pp 23))
theorem rf_keptG1 {K p T : Nat} (hK : K < 2 ^ p) (hT : T ≤ 23) (h : ¬ (T = 23 ∧ K = 2 ^ p - 1)) : (K + 1) * 2 ^ T < 2 ^ (p + 23) := by
  by_cases h1 : K + 1 < 2 ^ p
  · exact rf_keptG h1 hT
  · have e : K + 1 = 2 ^ p := by omega
    have hT' : T ≠ 23 := fun z => h ⟨z, by omega⟩
    rw [e, ← rf_pa]
    exact wb_lt2 (by omega)
theorem rf_round {p m : Nat} {E : Int} {neg more : Int32} (hp : 2 ≤ p) (hp2 : p ≤ 10) (hm : m < 2 ^ 60) (hE : -72 ≤ E ∧ E ≤ 60) :
    ∃ (F : Int32) (lo hi z : Int), rf_Q F lo hi z ∧ ((F &&& 1) = 0 → more = 0 → ∀ t : Nat, E = (t : Int) - 12 → lo = rf_s neg * ((m * 2 ^ t : Nat) : Int)) ∧
      rf_P p F lo hi z (fun r post u => wpX_round post u (nI r) neg (lN m) (rf_I E) more) := by
  have hb : rf_bl m ≤ 60 := (rf_bl_iff m 60).mpr hm
  have hbl : m < 2 ^ rf_bl m := rf_bl_lt m
  obtain ⟨u, hu⟩ : ∃ u : Int, (u = (rf_bl m : Int) + E - p ∧ -12 ≤ u) ∨ (u = -12 ∧ (rf_bl m : Int) + E - p < -12) := by
    by_cases h : -12 ≤ (rf_bl m : Int) + E - p
    · exact ⟨_, Or.inl ⟨rfl, h⟩⟩
    · exact ⟨-12, Or.inr ⟨rfl, by omega⟩⟩
  by_cases hA : m ≠ 0 ∧ 11 < u
  · -- beyond the limits
    refine ⟨3, _, _, _, rf_Q3 (rf_s neg * (((2 ^ p - 1) * 2 ^ 23 : Nat) : Int)), fun z => absurd z (by decide), fun r md f2 a1 a2 post hr hmd H => rf_r33 hp2 hm hE hu ?_⟩
    unfold wX_round_33
    refine br_f (fun z => hA.1 ((pk_lEQ (by omega) (by omega)).mp (z : lN m = lN 0))) (rf_le u 11 (fun z => absurd z (by omega)) (fun _ => ?_))
    exact rf_limit hr hp hp2 (fun fl m' e' h => H _ fl m' e' (rf_Os md _) h)
  · -- unit at most 11 (or nothing)
    have h33 : ∀ (r : Nat) (f1 f2 : Int32) (a1 a2 : Nat → Int32) (post : Int32 → St1 → Prop), wX_round_55 post (nI r) neg (lN m) (rf_I E) more (rf_I u) (nI p) f1 f2 a1 a2 → wpX_round post (nI p, f1, f2, a1, a2) (nI r) neg (lN m) (rf_I E) more := by
      intro r f1 f2 a1 a2 post H
      refine rf_r33 hp2 hm hE hu ?_
      unfold wX_round_33
      exact rf_leq m 0 (fun _ => H) (fun z => rf_le u 11 (fun _ => H) (fun y => absurd ⟨z, y⟩ hA))
    by_cases hB : u - E ≤ 0
    · -- nothing is cut
      obtain ⟨t, ht⟩ : ∃ t : Nat, E = (t : Int) - 12 := ⟨(E + 12).toNat, by omega⟩
      refine ⟨0, _, _, _, rf_Q0 (rf_s neg * ((m * 2 ^ t : Nat) : Int)), fun _ _ t' ht' => ?_, fun r md f2 a1 a2 post hr hmd H => h33 _ _ _ _ _ _ ?_⟩
      · have e : t' = t := by omega
        rw [e]
      · unfold wX_round_55
        refine nm_r (rf_Isub u E) (rf_lt 0 (u - E) (fun z => absurd z (by omega)) (fun _ => ?_))
        have hmp : m < 2 ^ p := (rf_bl_iff m p).mp (by omega)
        have hG : m * 2 ^ t < 2 ^ (p + 23) := by
          by_cases h0 : m = 0
          · rw [h0, Nat.zero_mul]
            exact rf_pp _
          · have hu11 : u ≤ 11 := Int.not_lt.mp (fun z => hA ⟨h0, z⟩)
            have h1 : m * 2 ^ t < 2 ^ (rf_bl m + t) := by
              rw [rf_pa]
              exact Nat.mul_lt_mul_of_pos_right hbl (rf_pp t)
            exact Nat.lt_of_lt_of_le h1 (rf_pm (by omega))
        rw [ht]
        exact rf_store hr (by omega) hp2 (by omega) hG (fun m' e' h => H _ _ m' e' (rf_Os md _) h)
    · -- something is cut
      obtain ⟨c, hc⟩ : ∃ c : Nat, u - E = (c : Int) := ⟨(u - E).toNat, by omega⟩
      obtain ⟨T, hT⟩ : ∃ T : Nat, u = (T : Int) - 12 := ⟨(u + 12).toNat, by omega⟩
      have hT23 : T ≤ 23 := by
        by_cases h0 : m = 0
        · have hb0 : rf_bl m = 0 := by rw [h0]; rfl
          omega
        · have hu11 : u ≤ 11 := Int.not_lt.mp (fun z => hA ⟨h0, z⟩)
          omega
      have hK : m / 2 ^ c < 2 ^ p := rf_kept hbl (by omega)
      have hKm : m / 2 ^ c ≤ m := Nat.div_le_self _ _
      have hLm : m % 2 ^ c ≤ m := Nat.mod_le _ _
      have hp10 : 2 ^ p ≤ 2 ^ 10 := rf_pm hp2
      have h113 : ∀ (r : Nat) (f1 f2 : Int32) (a1 a2 : Nat → Int32) (post : Int32 → St1 → Prop), wX_round_113 post (nI r) neg more (rf_I ((T : Int) - 12)) (nI c) (lN (m / 2 ^ c)) (lN (m % 2 ^ c)) (nI p) f1 f2 a1 a2 → wpX_round post (nI p, f1, f2, a1, a2) (nI r) neg (lN m) (rf_I E) more :=
        fun r f1 f2 a1 a2 post H => h33 _ _ _ _ _ _ (rf_r55 hm (by omega) (by omega) hc (by rw [hT]; exact H))
      by_cases hC1 : m % 2 ^ c = 0 ∧ more = 0
      · refine ⟨0, _, _, _, rf_Q0 (rf_s neg * ((m / 2 ^ c * 2 ^ T : Nat) : Int)), fun _ _ t ht => ?_, fun r md f2 a1 a2 post hr hmd H => h113 _ _ _ _ _ _ ?_⟩
        · have e : T = c + t := by omega
          have e2 : m / 2 ^ c * 2 ^ c = m := Nat.div_mul_cancel (Nat.dvd_of_mod_eq_zero hC1.1)
          rw [e, rf_pa, ← Nat.mul_assoc, e2]
        · unfold wX_round_113
          rw [hC1.1]
          exact br_t rfl (br_t hC1.2 (rf_store hr (by omega) hp2 (by omega) (rf_keptG hK hT23) (fun m' e' h => H _ _ m' e' (rf_Os md _) h)))
      · have h139 : ∀ (r : Nat) (f1 f2 : Int32) (a1 a2 : Nat → Int32) (post : Int32 → St1 → Prop), wX_round_139 post (nI r) neg more (rf_I ((T : Int) - 12)) (nI c) (lN (m / 2 ^ c)) (lN (m % 2 ^ c)) (nI p) f1 f2 a1 a2 → wpX_round post (nI p, f1, f2, a1, a2) (nI r) neg (lN m) (rf_I E) more := by
          intro r f1 f2 a1 a2 post H
          refine h113 _ _ _ _ _ _ ?_
          unfold wX_round_113
          exact rf_leq (m % 2 ^ c) 0 (fun z => br_f (fun y => hC1 ⟨z, y⟩) H) (fun _ => H)
        by_cases hC2 : T = 23 ∧ m / 2 ^ c = 2 ^ p - 1
        · refine ⟨3, _, _, _, rf_Q3 (rf_s neg * (((2 ^ p - 1) * 2 ^ 23 : Nat) : Int)), fun z => absurd z (by decide), fun r md f2 a1 a2 post hr hmd H => h139 _ _ _ _ _ _ ?_⟩
          unfold wX_round_139
          rw [rf_one1 (show p < 64 by omega), hC2.1, hC2.2]
          exact br_t rfl (br_t rfl (rf_limit hr hp hp2 (fun fl m' e' h => H _ fl m' e' (rf_Os md _) h)))
        · have hG1 := rf_keptG1 hK hT23 hC2
          have hXY : ((m / 2 ^ c * 2 ^ T : Nat) : Int) ≤ (((m / 2 ^ c + 1) * 2 ^ T : Nat) : Int) := by
            have := Nat.mul_le_mul_right (2 ^ T) (Nat.le_succ (m / 2 ^ c))
            exact Int.ofNat_le.mpr this
          refine ⟨1, _, _, _, rf_Q1 (neg := neg) hXY, fun z => absurd z (by decide), fun r md f2 a1 a2 post hr hmd H => h139 _ _ _ _ _ _ ?_⟩
          have h183 : ∀ odd : Int32, wX_round_183 post (nI r) neg more (rf_I ((T : Int) - 12)) (nI c) (lN (m / 2 ^ c)) (lN (m % 2 ^ c)) odd neg (nI p) (nI md) f2 a1 a2 := by
            intro odd
            refine rf_r183 hr hp hp2 hmd (by omega) hG1 (fun w fl m' e' hw h => H _ fl m' e' (rf_Oa hw ?_) h)
            have hw1 : w ≤ 1 := hw.1
            by_cases hw0 : w = 0
            · rw [if_pos hw0, hw0]; rfl
            · rw [if_neg hw0, show w = 1 by omega]
          have h167 : wX_round_167 post (nI r) neg more (rf_I ((T : Int) - 12)) (nI c) (lN (m / 2 ^ c)) (lN (m % 2 ^ c)) (nI p) (nI md) f2 a1 a2 := br_c (fun _ => h183 0) (fun _ => h183 1)
          unfold wX_round_139
          rw [rf_one1 (show p < 64 by omega)]
          exact rf_eq ((T : Int) - 12) 11 (fun z => rf_leq (m / 2 ^ c) (2 ^ p - 1) (fun y => absurd ⟨by omega, y⟩ hC2) (fun _ => h167)) (fun _ => h167)
end
section
theorem rf_size {post : Int64 → Prop} {a : Int} (ha : a.natAbs < 2 ^ 62) (H : post (lN a.natAbs)) : wpX_size post () (rf_L a) := by
  refine rf_Lle 0 a (fun z => ?_) (fun z => ?_)
  · have e : rf_L a = lN a.natAbs := by rw [rf_lN]; congr 1; omega
    rw [e]
    exact H
  · have e : -rf_L a = lN a.natAbs := by rw [rf_lN, rf_Lneg]; congr 1; omega
    rw [e]
    exact H
theorem rf_exact {p : Nat} {a E : Int} (hp : 2 ≤ p) (hp2 : p ≤ 10) (ha : a.natAbs < 2 ^ 60) (hE : -72 ≤ E ∧ E ≤ 60) :
    ∃ (F : Int32) (lo hi z : Int), rf_Q F lo hi z ∧ ((F &&& 1) = 0 → ∀ t : Nat, E = (t : Int) - 12 → lo = a * ((2 ^ t : Nat) : Int)) ∧
      rf_P p F lo hi z (fun r post u => wpX_exactly post u (nI r) (rf_L a) (rf_I E)) := by
  by_cases h : 0 ≤ a
  · obtain ⟨F, lo, hi, z, hQ, hX, hP⟩ := rf_round (neg := 0) (more := 0) hp hp2 ha hE
    refine ⟨F, lo, hi, z, hQ, fun hF t ht => ?_, fun r md f2 a1 a2 post hr hmd H => ?_⟩
    · rw [hX hF rfl t ht, rf_s0 rfl, Int.one_mul, Int.natCast_mul, Int.natAbs_of_nonneg h]
    · unfold wpX_exactly
      dsimp only
      refine rf_size (by omega) (rf_Lle 0 a (fun _ => ?_) (fun y => absurd y (by omega)))
      exact hP r md f2 a1 a2 _ hr hmd H
  · obtain ⟨F, lo, hi, z, hQ, hX, hP⟩ := rf_round (neg := 1) (more := 0) hp hp2 ha hE
    refine ⟨F, lo, hi, z, hQ, fun hF t ht => ?_, fun r md f2 a1 a2 post hr hmd H => ?_⟩
    · have e : a = -1 * (a.natAbs : Int) := by omega
      rw [hX hF rfl t ht, rf_s1 (by decide), Int.natCast_mul, ← Int.mul_assoc, ← e]
    · unfold wpX_exactly
      dsimp only
      refine rf_size (by omega) (rf_Lle 0 a (fun y => absurd y (by omega)) (fun _ => ?_))
      exact hP r md f2 a1 a2 _ hr hmd H
theorem rf_sum {p i j : Nat} {a b X Y low : Int} (hp : 2 ≤ p) (hp2 : p ≤ 10) (hX : X = low + i) (hY : Y = low + j) (hij : i = 0 ∨ j = 0) (hi6 : i < 64) (hj6 : j < 64) (hl : -72 ≤ low ∧ low ≤ 60)
    (ht : (a * ((2 ^ i : Nat) : Int) + b * ((2 ^ j : Nat) : Int)).natAbs < 2 ^ 60) :
    ∃ (F : Int32) (lo hi z : Int), rf_Q F lo hi z ∧ ((F &&& 1) = 0 → ∀ t : Nat, low = (t : Int) - 12 → lo = (a * ((2 ^ i : Nat) : Int) + b * ((2 ^ j : Nat) : Int)) * ((2 ^ t : Nat) : Int)) ∧
      rf_P p F lo hi z (fun r post u => wpX_sum post u (nI r) (rf_L a) (rf_I X) (rf_L b) (rf_I Y)) := by
  obtain ⟨F, lo, hi, z, hQ, hE, hP⟩ := rf_exact hp hp2 ht hl
  refine ⟨F, lo, hi, z, hQ, hE, fun r md f2 a1 a2 post hr hmd H => ?_⟩
  have h14 : wX_sum_14 post (nI r) (rf_L a) (rf_I X) (rf_L b) (rf_I Y) (rf_I low) (nI p) (nI md) f2 a1 a2 := by
    unfold wX_sum_14
    refine nm_r ?_ (hP r md f2 a1 a2 _ hr hmd H)
    rw [rf_Isub, rf_Isub, show X - low = (i : Int) by omega, show Y - low = (j : Int) by omega, rf_shl a hi6, rf_shl b hj6, rf_Ladd]
  refine rf_le Y X (fun y => ?_) (fun y => ?_)
  · have e : Y = low := by omega
    rw [← e] at h14
    exact h14
  · have e : X = low := by omega
    rw [← e] at h14
    exact h14
theorem rf_abs2 {a b : Int} {x y : Nat} (h1 : a.natAbs * x < 2 ^ 50) (h2 : b.natAbs * y < 2 ^ 50) : (a * (x : Int) + b * (y : Int)).natAbs < 2 ^ 60 := by
  have h := Int.natAbs_add_le (a * (x : Int)) (b * (y : Int))
  rw [Int.natAbs_mul, Int.natAbs_mul, Int.natAbs_natCast, Int.natAbs_natCast] at h
  omega
/-- what a register gives -/
theorem rf_Rb {p : Nat} {g : Int} {m e : Int32} (hp2 : p ≤ 10) (h : rf_R p g m e) :
    ∃ (M : Int) (t : Nat), m = rf_I M ∧ e = rf_I ((t : Int) - 12) ∧ g = M * ((2 ^ t : Nat) : Int) ∧ M.natAbs < 1024 ∧ M.natAbs * 2 ^ t < 2 ^ 33 ∧ t ≤ 32 := by
  obtain ⟨M, t, h1, h2, h3, h4, h5, h6⟩ := h
  have hp10 : 2 ^ p ≤ 2 ^ 10 := rf_pm hp2
  have hG : M.natAbs * 2 ^ t < 2 ^ 33 := Nat.lt_of_lt_of_le h5 (rf_pm (by omega))
  refine ⟨M, t, h1, h2, h3, by omega, hG, ?_⟩
  rcases h6 with h6 | h6
  · omega
  · have h7 : 1 * 2 ^ t ≤ M.natAbs * 2 ^ t := Nat.mul_le_mul_right _ (by omega)
    rw [Nat.one_mul] at h7
    have := rf_plt (Nat.lt_of_le_of_lt h7 hG)
    omega
theorem rf_cut {M : Int} {t i B : Nat} (hi : i ≤ t) (h : M.natAbs * 2 ^ t < B) : M.natAbs * 2 ^ i < B :=
  Nat.lt_of_le_of_lt (Nat.mul_le_mul_left _ (rf_pm hi)) h
theorem rf_sumR {p ta tb : Nat} {Ma Mb : Int} (hp : 2 ≤ p) (hp2 : p ≤ 10) (ha : Ma.natAbs * 2 ^ ta < 2 ^ 33) (hta : ta ≤ 32) (hb : Mb.natAbs * 2 ^ tb < 2 ^ 33) (htb : tb ≤ 32) :
    ∃ (F : Int32) (lo hi z : Int), rf_Q F lo hi z ∧ ((F &&& 1) = 0 → lo = Ma * ((2 ^ ta : Nat) : Int) + Mb * ((2 ^ tb : Nat) : Int)) ∧
      rf_P p F lo hi z (fun r post u => wpX_sum post u (nI r) (rf_L Ma) (rf_I ((ta : Int) - 12)) (rf_L Mb) (rf_I ((tb : Int) - 12))) := by
  obtain ⟨t0, i, j, e1, e2, hij⟩ : ∃ t0 i j : Nat, ta = i + t0 ∧ tb = j + t0 ∧ (i = 0 ∨ j = 0) := by
    by_cases h : ta ≤ tb
    · exact ⟨ta, 0, tb - ta, by omega, by omega, Or.inl rfl⟩
    · exact ⟨tb, ta - tb, 0, by omega, by omega, Or.inr rfl⟩
  have c1 : Ma.natAbs * 2 ^ i < 2 ^ 33 := rf_cut (by omega) ha
  have c2 : Mb.natAbs * 2 ^ j < 2 ^ 33 := rf_cut (by omega) hb
  obtain ⟨F, lo, hi, z, hQ, hE, hP⟩ := rf_sum (a := Ma) (b := Mb) (X := (ta : Int) - 12) (Y := (tb : Int) - 12) (low := (t0 : Int) - 12) (i := i) (j := j) hp hp2 (by omega) (by omega) hij (by omega) (by omega) (by omega) (rf_abs2 (by omega) (by omega))
  refine ⟨F, lo, hi, z, hQ, fun hF => ?_, hP⟩
  rw [hE hF t0 rfl, Int.add_mul, Int.mul_assoc, Int.mul_assoc, ← Int.natCast_mul, ← Int.natCast_mul, ← rf_pa, ← rf_pa, ← e1, ← e2]
/-- an operation on registers a and b -/
def rf_PA (p a b : Nat) (ma ea mb eb F : Int32) (lo hi z : Int) (W : Nat → (Int32 → St1 → Prop) → St1 → Prop) : Prop :=
  ∀ (r md : Nat) (f2 : Int32) (a1 a2 : Nat → Int32) (post : Int32 → St1 → Prop), r < 4 → md < 4 → a1 a = ma → a2 a = ea → a1 b = mb → a2 b = eb →
    (∀ (v : Int) (fl m' e' : Int32), rf_O md lo hi z v → rf_R p v m' e' → post F (nI p, nI md, fl, upd a1 r m', upd a2 r e')) → W r post (nI p, nI md, f2, a1, a2)
theorem rf_isr {post : Int32 → Prop} {r : Nat} (hr : r < 4) (H : post 1) : wpX_isRegister post () (nI r) :=
  br_f (nI_pos (by omega)) (br_f (nI_ge (b := 4) hr (by decide)) H)
theorem rf_n1 : ¬ (1 : Int32) = 0 := by decide
theorem rf_add {p a b : Nat} {ma ea mb eb : Int32} {ga gb : Int} (hp : 2 ≤ p) (hp2 : p ≤ 10) (ha : a < 4) (hb : b < 4) (Ha : rf_R p ga ma ea) (Hb : rf_R p gb mb eb) :
    ∃ (F : Int32) (lo hi z : Int), rf_Q F lo hi z ∧ ((F &&& 1) = 0 → lo = ga + gb) ∧ rf_PA p a b ma ea mb eb F lo hi z (fun r post u => wpX_add post u (nI r) (nI a) (nI b)) := by
  obtain ⟨Ma, ta, a1e, a2e, ag, am, aG, at'⟩ := rf_Rb hp2 Ha
  obtain ⟨Mb, tb, b1e, b2e, bg, bm, bG, bt'⟩ := rf_Rb hp2 Hb
  obtain ⟨F, lo, hi, z, hQ, hE, hP⟩ := rf_sumR hp hp2 aG at' bG bt'
  refine ⟨F, lo, hi, z, hQ, fun hF => by rw [hE hF, ag, bg], fun r md f2 a1 a2 post hr hmd h1 h2 h3 h4 H => ?_⟩
  unfold wpX_add
  dsimp only
  rw [nI_clamp (show a < 2 ^ 31 by omega), nI_clamp (show b < 2 ^ 31 by omega), h1, h2, h3, h4, a1e, a2e, b1e, b2e, rf_IL (by omega), rf_IL (by omega)]
  have ia : vp_in (nI a) 4 := vp_in_nI ha (by omega)
  have ib : vp_in (nI b) 4 := vp_in_nI hb (by omega)
  exact rf_isr hr (br_f rf_n1 (rf_isr ha (br_f rf_n1 (rf_isr hb (br_f rf_n1 ⟨ia, ia, ib, ib, hP r md f2 a1 a2 _ hr hmd H⟩)))))
theorem rf_sub {p a b : Nat} {ma ea mb eb : Int32} {ga gb : Int} (hp : 2 ≤ p) (hp2 : p ≤ 10) (ha : a < 4) (hb : b < 4) (Ha : rf_R p ga ma ea) (Hb : rf_R p gb mb eb) :
    ∃ (F : Int32) (lo hi z : Int), rf_Q F lo hi z ∧ ((F &&& 1) = 0 → lo = ga - gb) ∧ rf_PA p a b ma ea mb eb F lo hi z (fun r post u => wpX_sub post u (nI r) (nI a) (nI b)) := by
  obtain ⟨Ma, ta, a1e, a2e, ag, am, aG, at'⟩ := rf_Rb hp2 Ha
  obtain ⟨Mb, tb, b1e, b2e, bg, bm, bG, bt'⟩ := rf_Rb hp2 Hb
  obtain ⟨F, lo, hi, z, hQ, hE, hP⟩ := rf_sumR (Mb := -Mb) hp hp2 aG at' (by rw [Int.natAbs_neg]; exact bG) bt'
  refine ⟨F, lo, hi, z, hQ, fun hF => by rw [hE hF, ag, bg, Int.neg_mul, Int.sub_eq_add_neg], fun r md f2 a1 a2 post hr hmd h1 h2 h3 h4 H => ?_⟩
  unfold wpX_sub
  dsimp only
  rw [nI_clamp (show a < 2 ^ 31 by omega), nI_clamp (show b < 2 ^ 31 by omega), h1, h2, h3, h4, a1e, a2e, b1e, b2e, rf_Ineg, rf_IL (by omega), rf_IL (by omega)]
  have ia : vp_in (nI a) 4 := vp_in_nI ha (by omega)
  have ib : vp_in (nI b) 4 := vp_in_nI hb (by omega)
  exact rf_isr hr (br_f rf_n1 (rf_isr ha (br_f rf_n1 (rf_isr hb (br_f rf_n1 ⟨ia, ia, ib, ib, hP r md f2 a1 a2 _ hr hmd H⟩)))))
theorem rf_mulw {post : Int32 → St1 → Prop} {r a b ta tb : Nat} {Ma Mb : Int} {f0 f1 f2 : Int32} {a1 a2 : Nat → Int32} (hr : r < 4) (ha : a < 4) (hb : b < 4) (am : Ma.natAbs < 1024) (bm : Mb.natAbs < 1024)
    (h1 : a1 a = rf_I Ma) (h2 : a2 a = rf_I ((ta : Int) - 12)) (h3 : a1 b = rf_I Mb) (h4 : a2 b = rf_I ((tb : Int) - 12))
    (H : wpX_exactly post (f0, f1, f2, a1, a2) (nI r) (rf_L (Ma * Mb)) (rf_I ((ta : Int) - 12 + ((tb : Int) - 12)))) :
    wpX_mul post (f0, f1, f2, a1, a2) (nI r) (nI a) (nI b) := by
  unfold wpX_mul
  dsimp only
  rw [nI_clamp (show a < 2 ^ 31 by omega), nI_clamp (show b < 2 ^ 31 by omega), h1, h2, h3, h4, rf_IL (by omega), rf_IL (by omega), rf_Lmul, rf_Iadd]
  have ia : vp_in (nI a) 4 := vp_in_nI ha (by omega)
  have ib : vp_in (nI b) 4 := vp_in_nI hb (by omega)
  exact rf_isr hr (br_f rf_n1 (rf_isr ha (br_f rf_n1 (rf_isr hb (br_f rf_n1 ⟨ia, ib, nm_e ⟨ia, ib, H⟩⟩)))))
theorem rf_mul {p a b : Nat} {ma ea mb eb : Int32} {ga gb : Int} (hp : 2 ≤ p) (hp2 : p ≤ 10) (ha : a < 4) (hb : b < 4) (Ha : rf_R p ga ma ea) (Hb : rf_R p gb mb eb) :
    ∃ (F : Int32) (lo hi z : Int), rf_Q F lo hi z ∧ rf_PA p a b ma ea mb eb F lo hi z (fun r post u => wpX_mul post u (nI r) (nI a) (nI b)) ∧ rf_PA p a b ma ea mb eb F lo hi z (fun r post u => wpX_mul post u (nI r) (nI b) (nI a)) := by
  obtain ⟨Ma, ta, a1e, a2e, ag, am, aG, at'⟩ := rf_Rb hp2 Ha
  obtain ⟨Mb, tb, b1e, b2e, bg, bm, bG, bt'⟩ := rf_Rb hp2 Hb
  have hm : (Ma * Mb).natAbs < 2 ^ 60 := by
    rw [Int.natAbs_mul]
    have := Nat.mul_le_mul (Nat.le_of_lt am) (Nat.le_of_lt bm)
    omega
  obtain ⟨F, lo, hi, z, hQ, hE, hP⟩ := rf_exact (E := (ta : Int) - 12 + ((tb : Int) - 12)) hp hp2 hm (by omega)
  refine ⟨F, lo, hi, z, hQ, fun r md f2 a1 a2 post hr hmd h1 h2 h3 h4 H => ?_, fun r md f2 a1 a2 post hr hmd h1 h2 h3 h4 H => ?_⟩
  · exact rf_mulw hr ha hb am bm (h1.trans a1e) (h2.trans a2e) (h3.trans b1e) (h4.trans b2e) (hP r md f2 a1 a2 _ hr hmd H)
  · refine rf_mulw hr hb ha bm am (h3.trans b1e) (h4.trans b2e) (h1.trans a1e) (h2.trans a2e) ?_
    rw [Int.mul_comm Mb Ma, Int.add_comm ((tb : Int) - 12) ((ta : Int) - 12)]
    exact hP r md f2 a1 a2 _ hr hmd H
end
section
theorem rf_ln0 {n : Nat} (h : n ≠ 0) (hn : n < 2 ^ 63) : ¬ lN n = 0 := fun y => h ((pk_lEQ (b := 0) hn (by decide)).mp y)
theorem rf_I40 (a : Int) : rf_I a - 40 = rf_I (a - 40) := rf_Isub a 40
theorem rf_div {p a b : Nat} {ma ea mb eb : Int32} {ga gb : Int} (hp : 2 ≤ p) (hp2 : p ≤ 10) (ha : a < 4) (hb : b < 4) (Ha : rf_R p ga ma ea) (Hb : rf_R p gb mb eb) :
    ∃ (F : Int32) (lo hi z : Int), rf_Q F lo hi z ∧ rf_PA p a b ma ea mb eb F lo hi z (fun r post u => wpX_div post u (nI r) (nI a) (nI b)) := by
  obtain ⟨Ma, ta, a1e, a2e, ag, am, aG, at'⟩ := rf_Rb hp2 Ha
  obtain ⟨Mb, tb, b1e, b2e, bg, bm, bG, bt'⟩ := rf_Rb hp2 Hb
  have ca : (nI a).toNatClampNeg = a := nI_clamp (by omega)
  have cb : (nI b).toNatClampNeg = b := nI_clamp (by omega)
  have ia : vp_in (nI a) 4 := vp_in_nI ha (by omega)
  have ib : vp_in (nI b) 4 := vp_in_nI hb (by omega)
  by_cases h0 : Mb = 0
  · refine ⟨4, 0, 0, 0, rf_Q4 0, fun r md f2 a1 a2 post hr hmd h1 h2 h3 h4 H => ?_⟩
    unfold wpX_div
    dsimp only
    rw [ca, cb, h1, h3, a1e, b1e, rf_IL (by omega), rf_IL (by omega)]
    refine rf_isr hr (br_f rf_n1 (rf_isr ha (br_f rf_n1 (rf_isr hb (br_f rf_n1 ⟨ib, rf_size (by omega) (br_t ?_ ?_)⟩)))))
    · rw [h0]; rfl
    · exact rf_invalid hr hp hp2 (fun fl m e h => H 0 fl m e (rf_Os md 0) h)
  · obtain ⟨q, hq⟩ : ∃ q : Nat, q = Ma.natAbs * 2 ^ 40 / Mb.natAbs := ⟨_, rfl⟩
    have hql : q ≤ Ma.natAbs * 2 ^ 40 := by rw [hq]; exact Nat.div_le_self _ _
    have hqm : q * Mb.natAbs ≤ Ma.natAbs * 2 ^ 40 := by rw [hq]; exact Nat.div_mul_le_self _ _
    obtain ⟨mo, hmo⟩ : ∃ mo : Int32, mo = if q * Mb.natAbs = Ma.natAbs * 2 ^ 40 then 0 else 1 := ⟨_, rfl⟩
    obtain ⟨nn, hnn⟩ : ∃ nn : Int32, nn = if (0 ≤ Ma ↔ 0 ≤ Mb) then 0 else 1 := ⟨_, rfl⟩
    obtain ⟨F, lo, hi, z, hQ, hE, hP⟩ := rf_round (p := p) (m := q) (neg := nn) (more := mo) (E := (ta : Int) - 12 - ((tb : Int) - 12) - 40) hp hp2 (by omega) (by omega)
    refine ⟨F, lo, hi, z, hQ, fun r md f2 a1 a2 post hr hmd h1 h2 h3 h4 H => ?_⟩
    have h124 : wX_div_124 post (nI r) (nI a) (nI b) (lN q) mo nn (nI p) (nI md) f2 a1 a2 := by
      unfold wX_div_124
      rw [ca, cb, h2, h4, a2e, b2e, rf_Isub, rf_I40]
      exact ⟨ia, ib, hP r md f2 a1 a2 _ hr hmd H⟩
    have h86 : wX_div_86 post (nI r) (nI a) (nI b) (lN q) mo (nI p) (nI md) f2 a1 a2 := by
      unfold wX_div_86
      rw [ca, h1, a1e]
      refine ⟨ia, rf_le 0 Ma (fun z1 => ?_) (fun z1 => ?_)⟩
      · unfold wX_div_102
        rw [cb, h3, b1e]
        refine ⟨ib, rf_le 0 Mb (fun z2 => ?_) (fun z2 => ?_)⟩
        · have e : nn = 0 := hnn.trans (if_pos (by omega))
          rw [e] at h124
          exact br_t rfl h124
        · have e : nn = 1 := hnn.trans (if_neg (by omega))
          rw [e] at h124
          exact br_f (by decide) h124
      · unfold wX_div_102
        rw [cb, h3, b1e]
        refine ⟨ib, rf_le 0 Mb (fun z2 => ?_) (fun z2 => ?_)⟩
        · have e : nn = 1 := hnn.trans (if_neg (by omega))
          rw [e] at h124
          exact br_f (by decide) h124
        · have e : nn = 0 := hnn.trans (if_pos (by omega))
          rw [e] at h124
          exact br_t rfl h124
    unfold wpX_div
    dsimp only
    rw [ca, cb, h1, h3, a1e, b1e, rf_IL (by omega), rf_IL (by omega)]
    have hn0 : ¬ lN Mb.natAbs = 0 := rf_ln0 (by omega) (by omega)
    refine rf_isr hr (br_f rf_n1 (rf_isr ha (br_f rf_n1 (rf_isr hb (br_f rf_n1 ⟨ib, rf_size (by omega) (br_f hn0 ⟨ia, rf_size (by omega) (nm_r (wb_shl _ (k := 40) (by omega)) ⟨hn0, nm_r (e' := lN q) ?_ ?_⟩)⟩)⟩)))))
    · rw [pk_lDiv (by omega) (by omega) (by omega), hq]
    · rw [lN_mul]
      refine rf_leq (q * Mb.natAbs) (Ma.natAbs * 2 ^ 40) (fun y => ?_) (fun y => ?_)
      · have e : mo = 0 := hmo.trans (if_pos y)
        rw [e] at h86
        exact h86
      · have e : mo = 1 := hmo.trans (if_neg y)
        rw [e] at h86
        exact h86
/-- wholeRoot: what it answers is a function of its argument, below 2^27 -/
def rf_wr (x0 : Int64) : Nat → Nat → Nat
  | 0, w => w
  | k + 1, w => if x0 < lN (w ||| 2 ^ k) * lN (w ||| 2 ^ k) then rf_wr x0 k w else rf_wr x0 k (w ||| 2 ^ k)
theorem rf_wrs (x0 : Int64) (k w : Nat) : rf_wr x0 (k + 1) w = if x0 < lN (w ||| 2 ^ k) * lN (w ||| 2 ^ k) then rf_wr x0 k w else rf_wr x0 k (w ||| 2 ^ k) := rfl
theorem rf_wrlt (x0 : Int64) : ∀ k w : Nat, k ≤ 27 → w < 2 ^ 27 → rf_wr x0 k w < 2 ^ 27 := by
  intro k
  induction k with
  | zero => intro w _ hw; exact hw
  | succ k ih =>
    intro w hk hw
    rw [rf_wrs]
    by_cases h : x0 < lN (w ||| 2 ^ k) * lN (w ||| 2 ^ k)
    · rw [if_pos h]
      exact ih w (by omega) hw
    · rw [if_neg h]
      exact ih _ (by omega) (Nat.or_lt_two_pow hw (wb_lt2 (by omega)))
theorem rf_wr6 {post : Int64 → Prop} {x0 : Int64} : ∀ k w : Nat, k ≤ 27 → w < 2 ^ 27 → post (lN (rf_wr x0 k w)) → wX_wholeRoot_6 post x0 (k + 1) (lN w) (nI k + (-1)) := by
  intro k
  induction k with
  | zero => intro w _ hw H; exact br_t (by decide) H
  | succ k ih =>
    intro w hk hw H
    have hk2 : 2 ^ k < 2 ^ 27 := wb_lt2 (by omega)
    rw [pk_m1]
    refine br_f (nI_pos (by omega)) (nm_r (e' := lN (w ||| 2 ^ k)) (by rw [rf_one (by omega), wb_or (by omega) (by omega)]) ?_)
    rw [rf_wrs] at H
    by_cases h : x0 < lN (w ||| 2 ^ k) * lN (w ||| 2 ^ k)
    · rw [if_pos h] at H
      exact br_t h (nm_e (ih w (by omega) hw H))
    · rw [if_neg h] at H
      exact br_f h (nm_e (ih _ (by omega) (Nat.or_lt_two_pow hw hk2) H))
theorem rf_wroot {post : Int64 → Prop} {x0 : Int64} (H : post (lN (rf_wr x0 27 0))) : wpX_wholeRoot post () x0 := by
  have h := rf_wr6 (post := post) (x0 := x0) 27 0 (by omega) (by omega) H
  rw [pk_m1 26] at h
  exact ⟨28, h⟩
theorem rf_half : ∀ n : Nat, n < 40 → -72 ≤ (rf_I ((n : Int) - 54) / 2).toInt ∧ (rf_I ((n : Int) - 54) / 2).toInt ≤ 60 := by decide +kernel
theorem rf_root {p a : Nat} {ma ea : Int32} {ga : Int} (hp : 2 ≤ p) (hp2 : p ≤ 10) (ha : a < 4) (Ha : rf_R p ga ma ea) :
    ∃ (F : Int32) (lo hi z : Int), rf_Q F lo hi z ∧ rf_PA p a a ma ea ma ea F lo hi z (fun r post u => wpX_root post u (nI r) (nI a)) := by
  obtain ⟨Ma, ta, a1e, a2e, ag, am, aG, at'⟩ := rf_Rb hp2 Ha
  have ca : (nI a).toNatClampNeg = a := nI_clamp (by omega)
  have ia : vp_in (nI a) 4 := vp_in_nI ha (by omega)
  by_cases h0 : 0 ≤ Ma
  · obtain ⟨j, hj, hj2⟩ := pk_andE (rf_I ((ta : Int) - 12)) (m := 1) 1 (by decide)
    have hh := rf_half (ta + 2 - j) (by omega)
    have eh : (((ta + 2 - j : Nat) : Int) - 54) = (ta : Int) - 12 - j - 40 := by omega
    rw [eh] at hh
    obtain ⟨X0, hX0⟩ : ∃ X0 : Int64, X0 = rf_L Ma <<< ((40 + nI j).toInt64 &&& 63) := ⟨_, rfl⟩
    have hw : rf_wr X0 27 0 < 2 ^ 27 := rf_wrlt X0 27 0 (by omega) (by omega)
    obtain ⟨mo, hmo⟩ : ∃ mo : Int32, mo = if lN (rf_wr X0 27 0) * lN (rf_wr X0 27 0) = X0 then 0 else 1 := ⟨_, rfl⟩
    obtain ⟨F, lo, hi, z, hQ, hE, hP⟩ := rf_round (p := p) (m := rf_wr X0 27 0) (neg := 0) (more := mo) hp hp2 (by omega) hh
    refine ⟨F, lo, hi, z, hQ, fun r md f2 a1 a2 post hr hmd h1 h2 _ _ H => ?_⟩
    have eE : (rf_I ((ta : Int) - 12) - nI j - 40) / 2 = rf_I (rf_I ((ta : Int) - 12 - j - 40) / 2).toInt := by
      have e1 : rf_I ((ta : Int) - 12) - nI j - 40 = rf_I ((ta : Int) - 12 - j - 40) := by
        rw [rf_nI, rf_Isub]
        exact rf_Isub _ 40
      rw [e1]
      exact (Int32.ofInt_toInt _).symm
    have h95 : wX_root_95 post mo (rf_I (rf_I ((ta : Int) - 12 - j - 40) / 2).toInt) (lN (rf_wr X0 27 0)) 0 (nI r) (nI p) (nI md) f2 a1 a2 := hP r md f2 a1 a2 _ hr hmd H
    unfold wpX_root
    dsimp only
    rw [ca, h1, h2, a1e, a2e, rf_IL (by omega)]
    refine rf_isr hr (br_f rf_n1 (rf_isr ha (br_f rf_n1 ⟨ia, rf_le 0 Ma (fun _ => ⟨ia, nm_r hj2 ⟨ia, nm_r hX0.symm (rf_wroot ⟨ia, by decide, ?_⟩)⟩⟩) (fun y => absurd y (by omega))⟩)))
    rw [eE]
    by_cases hs : lN (rf_wr X0 27 0) * lN (rf_wr X0 27 0) = X0
    · rw [hmo, if_pos hs] at h95
      exact br_t hs h95
    · rw [hmo, if_neg hs] at h95
      exact br_f hs h95
  · refine ⟨4, 0, 0, 0, rf_Q4 0, fun r md f2 a1 a2 post hr hmd h1 h2 _ _ H => ?_⟩
    unfold wpX_root
    dsimp only
    rw [ca, h1, h2, a1e, a2e, rf_IL (by omega)]
    refine rf_isr hr (br_f rf_n1 (rf_isr ha (br_f rf_n1 ⟨ia, rf_le 0 Ma (fun y => absurd y h0) (fun _ => ?_)⟩)))
    exact rf_invalid hr hp hp2 (fun fl m e h => H 0 fl m e (rf_Os md 0) h)
end
section
theorem rf_fusew {post : Int32 → St1 → Prop} {r a b ta tb : Nat} {Ma Mb : Int} {f0 f1 f2 : Int32} {a1 a2 : Nat → Int32} (hr : r < 4) (ha : a < 3) (hb : b < 3) (am : Ma.natAbs < 1024) (bm : Mb.natAbs < 1024) (at' : ta ≤ 32) (bt' : tb ≤ 32)
    (h1 : a1 a = rf_I Ma) (h2 : a2 a = rf_I ((ta : Int) - 12)) (h3 : a1 b = rf_I Mb) (h4 : a2 b = rf_I ((tb : Int) - 12))
    (H : (Ma * Mb = 0 ∨ (rf_bl (Ma * Mb).natAbs : Int) + ((ta : Int) - 12 + ((tb : Int) - 12)) ≤ 26) → wX_fuse_118 post (nI r) (nI a) (rf_L (Ma * Mb)) (rf_I ((ta : Int) - 12 + ((tb : Int) - 12))) f0 f1 f2 a1 a2)
    (H2 : Ma * Mb ≠ 0 → 26 < (rf_bl (Ma * Mb).natAbs : Int) + ((ta : Int) - 12 + ((tb : Int) - 12)) → wX_fuse_114 post (if 0 ≤ Ma * Mb then 0 else 1) (nI r) f0 f1 f2 a1 a2) :
    wpX_fuse post (f0, f1, f2, a1, a2) (nI r) ((nI a + (4 * nI b)) + (16 * nI a)) := by
  have ca : (nI a).toNatClampNeg = a := nI_clamp (by omega)
  have cb : (nI b).toNatClampNeg = b := nI_clamp (by omega)
  have ia : vp_in (nI a) 4 := vp_in_nI (by omega) (by omega)
  have ib : vp_in (nI b) 4 := vp_in_nI (by omega) (by omega)
  have en : (nI a + (4 * nI b)) + (16 * nI a) = nI (a + 4 * b + 16 * a) := by
    have e4 : (4 : Int32) * nI b = nI (4 * b) := pk_mul 4 b
    have e16 : (16 : Int32) * nI a = nI (16 * a) := pk_mul 16 a
    rw [e4, e16, nI_add, nI_add]
  have x3 : nI (a + 4 * b + 16 * a) &&& 3 = nI a := by
    rw [pk_andN (by omega) 2 (by decide)]
    congr 1
    omega
  have x4 : (nI (a + 4 * b + 16 * a) >>> ((2 : Int32) &&& 31)) &&& 3 = nI b := by
    have e : (a + 4 * b + 16 * a) / 2 ^ 2 = 4 * a + b := by omega
    rw [pk_shrN (by omega) _ 2 (by decide), e, pk_andN (by omega) 2 (by decide)]
    congr 1
    omega
  have x5 : nI (a + 4 * b + 16 * a) >>> ((4 : Int32) &&& 31) = nI a := by
    rw [pk_shrN (by omega) _ 4 (by decide)]
    congr 1
    omega
  have hm : (Ma * Mb).natAbs < 2 ^ 21 := by
    rw [Int.natAbs_mul]
    have := Nat.mul_le_mul (Nat.le_of_lt am) (Nat.le_of_lt bm)
    omega
  have hbl : rf_bl (Ma * Mb).natAbs ≤ 21 := (rf_bl_iff _ 21).mpr hm
  rw [en]
  unfold wpX_fuse
  dsimp only
  refine rf_isr hr (br_f rf_n1 (br_f (nI_pos (by omega)) (pk_le (a + 4 * b + 16 * a) 63 (fun _ => nm_r x3 (nm_r x4 (nm_r x5 ⟨ia, ib, ?_⟩))) (fun y => absurd y (by omega)))))
  rw [ca, cb, h1, h2, h3, h4, rf_IL (by omega), rf_IL (by omega), rf_Lmul, rf_Iadd]
  refine nm_e ⟨ia, ib, nm_e (rf_size (by omega) (rf_bits (by omega) (nm_r (by rw [rf_nI, rf_Iadd]) ?_)))⟩
  refine rf_Leq (Ma * Mb) 0 (fun y => H (Or.inl y)) (fun y => rf_le ((rf_bl (Ma * Mb).natAbs : Int) + ((ta : Int) - 12 + ((tb : Int) - 12))) 26 (fun y2 => H (Or.inr y2)) (fun y2 => ?_))
  have h := H2 y y2
  refine rf_Lle 0 (Ma * Mb) (fun y3 => ?_) (fun y3 => ?_)
  · rw [if_pos y3] at h
    exact h
  · rw [if_neg (by omega)] at h
    exact h
theorem rf_fuse {p a b : Nat} {ma ea mb eb : Int32} {ga gb : Int} (hp : 2 ≤ p) (hp2 : p ≤ 10) (ha : a < 3) (hb : b < 3) (Ha : rf_R p ga ma ea) (Hb : rf_R p gb mb eb) :
    ∃ (F : Int32) (lo hi z : Int), rf_Q F lo hi z ∧ rf_PA p a b ma ea mb eb F lo hi z (fun r post u => wpX_fuse post u (nI r) ((nI a + (4 * nI b)) + (16 * nI a))) := by
  obtain ⟨Ma, ta, a1e, a2e, ag, am, aG, at'⟩ := rf_Rb hp2 Ha
  obtain ⟨Mb, tb, b1e, b2e, bg, bm, bG, bt'⟩ := rf_Rb hp2 Hb
  have ca : (nI a).toNatClampNeg = a := nI_clamp (by omega)
  have ia : vp_in (nI a) 4 := vp_in_nI (by omega) (by omega)
  have hm : (Ma * Mb).natAbs < 2 ^ 21 := by
    rw [Int.natAbs_mul]
    have := Nat.mul_le_mul (Nat.le_of_lt am) (Nat.le_of_lt bm)
    omega
  by_cases hc : 26 < (rf_bl (Ma * Mb).natAbs : Int) + ((ta : Int) - 12 + ((tb : Int) - 12)) ∧ Ma * Mb ≠ 0
  · obtain ⟨nn, hnn⟩ : ∃ nn : Int32, nn = if 0 ≤ Ma * Mb then 0 else 1 := ⟨_, rfl⟩
    refine ⟨3, _, _, _, rf_Q3 (rf_s nn * (((2 ^ p - 1) * 2 ^ 23 : Nat) : Int)), fun r md f2 a1 a2 post hr hmd h1 h2 h3 h4 H => ?_⟩
    refine rf_fusew hr ha hb am bm at' bt' (h1.trans a1e) (h2.trans a2e) (h3.trans b1e) (h4.trans b2e) (fun y => absurd y (by omega)) (fun _ _ => ?_)
    rw [← hnn]
    exact rf_limit hr hp hp2 (fun fl m e h => H _ fl m e (rf_Os md _) h)
  · obtain ⟨X, hX⟩ : ∃ X : Int, X = if Ma * Mb = 0 then 0 else (ta : Int) - 12 + ((tb : Int) - 12) := ⟨_, rfl⟩
    have hXr : -24 ≤ X ∧ X ≤ 40 ∧ (Ma * Mb).natAbs * 2 ^ (X + 24).toNat < 2 ^ 50 := by
      by_cases h0 : Ma * Mb = 0
      · rw [if_pos h0] at hX
        refine ⟨by omega, by omega, ?_⟩
        rw [h0]
        show 0 * _ < _
        rw [Nat.zero_mul]
        decide
      · rw [if_neg h0] at hX
        refine ⟨by omega, by omega, ?_⟩
        have hb1 := rf_bl_lt (Ma * Mb).natAbs
        have h2 : (Ma * Mb).natAbs * 2 ^ (X + 24).toNat < 2 ^ (rf_bl (Ma * Mb).natAbs + (X + 24).toNat) := by
          rw [rf_pa]
          exact Nat.mul_lt_mul_of_pos_right hb1 (rf_pp _)
        exact Nat.lt_of_lt_of_le h2 (rf_pm (by omega))
    obtain ⟨low, i, j, e1, e2, hij, hl, hi64, hj64, ci, cj⟩ : ∃ (low : Int) (i j : Nat), X = low + i ∧ (ta : Int) - 12 = low + j ∧ (i = 0 ∨ j = 0) ∧ (-72 ≤ low ∧ low ≤ 60) ∧ i < 64 ∧ j < 64 ∧ i ≤ (X + 24).toNat ∧ j ≤ ta + 12 := by
      by_cases h : X ≤ (ta : Int) - 12
      · exact ⟨X, 0, ((ta : Int) - 12 - X).toNat, by omega, by omega, Or.inl rfl, by omega, by omega, by omega, by omega, by omega⟩
      · exact ⟨(ta : Int) - 12, (X - ((ta : Int) - 12)).toNat, 0, by omega, by omega, Or.inr rfl, by omega, by omega, by omega, by omega, by omega⟩
    have d1 : (Ma * Mb).natAbs * 2 ^ i < 2 ^ 50 := rf_cut ci hXr.2.2
    have d2 : Ma.natAbs * 2 ^ j < 2 ^ 50 := by
      refine rf_cut cj ?_
      rw [rf_pa, ← Nat.mul_assoc]
      have := Nat.mul_lt_mul_of_pos_right aG (rf_pp 12)
      omega
    obtain ⟨F, lo, hi, z, hQ, hE, hP⟩ := rf_sum (p := p) (a := Ma * Mb) (b := Ma) (X := X) (Y := (ta : Int) - 12) (low := low) (i := i) (j := j) hp hp2 e1 e2 hij hi64 hj64 hl (rf_abs2 d1 d2)
    refine ⟨F, lo, hi, z, hQ, fun r md f2 a1 a2 post hr hmd h1 h2 h3 h4 H => ?_⟩
    refine rf_fusew hr ha hb am bm at' bt' (h1.trans a1e) (h2.trans a2e) (h3.trans b1e) (h4.trans b2e) (fun _ => ?_) (fun y1 y2 => absurd ⟨y2, y1⟩ hc)
    have h135 : wX_fuse_135 post (nI a) (rf_I X) (rf_L (Ma * Mb)) (nI r) (nI p) (nI md) f2 a1 a2 := by
      unfold wX_fuse_135
      rw [ca, h1, h2, a1e, a2e, rf_IL (by omega)]
      exact ⟨ia, ia, hP r md f2 a1 a2 _ hr hmd H⟩
    unfold wX_fuse_118
    refine rf_Leq (Ma * Mb) 0 (fun y => ?_) (fun y => ?_)
    · rw [hX, if_pos y] at h135
      exact h135
    · rw [hX, if_neg y] at h135
      exact h135
/-- load: any ints -/
theorem rf_load {p r md : Nat} {f2 x y : Int32} {a1 a2 : Nat → Int32} {post : Int32 → St1 → Prop} (hp : 2 ≤ p) (hp2 : p ≤ 10) (hr : r < 4) (hmd : md < 4)
    (H0 : post (-1) (nI p, nI md, f2, a1, a2)) (H : ∀ (F : Int32) (v : Int) (fl m e : Int32), rf_R p v m e → post F (nI p, nI md, fl, upd a1 r m, upd a2 r e)) :
    wpX_load post (nI p, nI md, f2, a1, a2) (nI r) x y := by
  unfold wpX_load
  dsimp only
  refine rf_isr hr (br_f rf_n1 ⟨fun _ => H0, fun g1 => ⟨fun _ => H0, fun g2 => ⟨fun _ => H0, fun g3 => ⟨fun g4 => ?_, fun _ => H0⟩⟩⟩⟩)
  have k1 : (-1000000 : Int32).toInt = -1000000 := by decide
  have k2 : (1000000 : Int32).toInt = 1000000 := by decide
  have k3 : (-20 : Int32).toInt = -20 := by decide
  have k4 : (20 : Int32).toInt = 20 := by decide
  rw [Int32.lt_iff_toInt_lt, k1] at g1
  rw [Int32.lt_iff_toInt_lt, k2] at g2
  rw [Int32.lt_iff_toInt_lt, k3] at g3
  rw [Int32.le_iff_toInt_le, k4] at g4
  have ex : x.toInt64 = rf_L x.toInt := by
    rw [← rf_IL (by omega)]
    congr 1
    exact (Int32.ofInt_toInt x).symm
  have ey : y = rf_I y.toInt := (Int32.ofInt_toInt y).symm
  obtain ⟨F, lo, hi, z, hQ, hE, hP⟩ := rf_exact (p := p) (a := x.toInt) (E := y.toInt) hp hp2 (by omega) (by omega)
  rw [ex, ey]
  exact hP r md f2 a1 a2 _ hr hmd (fun v fl m e _ h => H F v fl m e h)
end
section
/-- all four registers -/
def rf_K (p : Nat) (a1 a2 : Nat → Int32) : Prop := ∀ j : Nat, j < 4 → ∃ g : Int, rf_R p g (a1 j) (a2 j)
theorem rf_Ku {p r : Nat} {g : Int} {m e : Int32} {a1 a2 : Nat → Int32} (h : rf_K p a1 a2) (hr : rf_R p g m e) : rf_K p (upd a1 r m) (upd a2 r e) := by
  intro j hj
  by_cases ej : j = r
  · rw [ej, pk_us, pk_us]
    exact ⟨g, hr⟩
  · rw [pk_un ej, pk_un ej]
    exact h j hj
theorem rf_exponent {post : Int32 → Prop} {f0 f1 f2 : Int32} {a1 a2 : Nat → Int32} {r : Nat} (hr : r < 4) (H : post (a2 r)) : wpX_exponent post (f0, f1, f2, a1, a2) (nI r) := by
  unfold wpX_exponent
  dsimp only
  refine rf_isr hr (br_f rf_n1 ⟨vp_in_nI hr (by omega), ?_⟩)
  rw [nI_clamp (by omega)]
  exact H
theorem rf_mantissa {post : Int32 → Prop} {f0 f1 f2 : Int32} {a1 a2 : Nat → Int32} {r : Nat} (hr : r < 4) (H : post (a1 r)) : wpX_mantissa post (f0, f1, f2, a1, a2) (nI r) := by
  unfold wpX_mantissa
  dsimp only
  refine rf_isr hr (br_f rf_n1 ⟨vp_in_nI hr (by omega), ?_⟩)
  rw [nI_clamp (by omega)]
  exact H
theorem rf_get {post : Int64 → Prop} {f0 f1 f2 : Int32} {a1 a2 : Nat → Int32} {p r : Nat} {g : Int} (hp2 : p ≤ 10) (hr : r < 4) (h : rf_R p g (a1 r) (a2 r)) (H : post (rf_L g)) : wpL_get post (f0, f1, f2, a1, a2) (nI r) := by
  obtain ⟨M, t, h1, h2, h3, h4, h5, h6⟩ := rf_Rb hp2 h
  unfold wpL_get
  dsimp only
  refine rf_exponent hr (rf_mantissa hr ?_)
  have e : rf_I ((t : Int) - 12) + 12 = rf_I (t : Int) := by
    have := rf_Iadd ((t : Int) - 12) 12
    rw [show (t : Int) - 12 + 12 = t by omega] at this
    exact this
  rw [h1, h2, e, rf_IL (by omega), rf_shl M (by omega), ← h3]
  exact H
theorem rf_get3 {post : Int64 → Prop} {f0 f1 f2 m e : Int32} {a1 a2 : Nat → Int32} {p : Nat} {g : Int} (hp2 : p ≤ 10) (h : rf_R p g m e) (H : post (rf_L g)) : wpL_get post (f0, f1, f2, upd a1 3 m, upd a2 3 e) 3 :=
  rf_get (r := 3) hp2 (by omega) (by rw [pk_us, pk_us]; exact h) H
theorem rf_Rv {p : Nat} {g : Int} {m e : Int32} (hp2 : p ≤ 10) (h : rf_R p g m e) : -8589934592 < g ∧ g < 8589934592 := by
  obtain ⟨M, t, h1, h2, h3, h4, h5, h6⟩ := rf_Rb hp2 h
  have h7 : g.natAbs = M.natAbs * 2 ^ t := by rw [h3, Int.natAbs_mul, Int.natAbs_natCast]
  omega
theorem rf_setMode {post : Int32 → St1 → Prop} {f0 f1 f2 : Int32} {a1 a2 : Nat → Int32} {k : Nat} (hk : k < 4) (H : post 1 (f0, nI k, f2, a1, a2)) : wpX_setMode post (f0, f1, f2, a1, a2) (nI k) :=
  br_f (nI_pos (by omega)) (pk_le k 3 (fun _ => H) (fun y => absurd y (by omega)))
/-- the law's apply: register 3 -/
def rf_PB (p a b : Nat) (ma ea mb eb F : Int32) (lo hi z : Int) (W : (Int32 → St1 → Prop) → St1 → Prop) : Prop :=
  ∀ (md : Nat) (f2 : Int32) (a1 a2 : Nat → Int32) (post : Int32 → St1 → Prop), md < 4 → a1 a = ma → a2 a = ea → a1 b = mb → a2 b = eb →
    (∀ (v : Int) (fl m' e' : Int32), rf_O md lo hi z v → rf_R p v m' e' → post F (nI p, nI md, fl, upd a1 3 m', upd a2 3 e')) → W post (nI p, nI md, f2, a1, a2)
theorem rf_apply {p a b op : Nat} {ma ea mb eb : Int32} {ga gb : Int} (hp : 2 ≤ p) (hp2 : p ≤ 10) (ha : a < 3) (hb : b < 3) (hop : op < 6) (Ha : rf_R p ga ma ea) (Hb : rf_R p gb mb eb) :
    ∃ (F : Int32) (lo hi z : Int), rf_Q F lo hi z ∧ rf_PB p a b ma ea mb eb F lo hi z (fun post u => wpL_apply post u (nI op) (nI a) (nI b)) := by
  rcases (show op = 0 ∨ op = 1 ∨ op = 2 ∨ op = 3 ∨ op = 4 ∨ op = 5 by omega) with h | h | h | h | h | h
  · subst h
    obtain ⟨F, lo, hi, z, hQ, _, hP⟩ := rf_add (a := a) (b := b) hp hp2 (by omega) (by omega) Ha Hb
    exact ⟨F, lo, hi, z, hQ, fun md f2 a1 a2 post hmd h1 h2 h3 h4 H => br_t rfl (hP 3 md f2 a1 a2 _ (by omega) hmd h1 h2 h3 h4 H)⟩
  · subst h
    obtain ⟨F, lo, hi, z, hQ, _, hP⟩ := rf_sub (a := a) (b := b) hp hp2 (by omega) (by omega) Ha Hb
    exact ⟨F, lo, hi, z, hQ, fun md f2 a1 a2 post hmd h1 h2 h3 h4 H => br_f (by decide) (br_t rfl (hP 3 md f2 a1 a2 _ (by omega) hmd h1 h2 h3 h4 H))⟩
  · subst h
    obtain ⟨F, lo, hi, z, hQ, hP, _⟩ := rf_mul (a := a) (b := b) hp hp2 (by omega) (by omega) Ha Hb
    exact ⟨F, lo, hi, z, hQ, fun md f2 a1 a2 post hmd h1 h2 h3 h4 H => br_f (by decide) (br_f (by decide) (br_t rfl (hP 3 md f2 a1 a2 _ (by omega) hmd h1 h2 h3 h4 H)))⟩
  · subst h
    obtain ⟨F, lo, hi, z, hQ, hP⟩ := rf_div (a := a) (b := b) hp hp2 (by omega) (by omega) Ha Hb
    exact ⟨F, lo, hi, z, hQ, fun md f2 a1 a2 post hmd h1 h2 h3 h4 H => br_f (by decide) (br_f (by decide) (br_f (by decide) (br_t rfl (hP 3 md f2 a1 a2 _ (by omega) hmd h1 h2 h3 h4 H))))⟩
  · subst h
    obtain ⟨F, lo, hi, z, hQ, hP⟩ := rf_root (a := a) hp hp2 (by omega) Ha
    exact ⟨F, lo, hi, z, hQ, fun md f2 a1 a2 post hmd h1 h2 h3 h4 H => br_f (by decide) (br_f (by decide) (br_f (by decide) (br_f (by decide) (br_t rfl (hP 3 md f2 a1 a2 _ (by omega) hmd h1 h2 h1 h2 H)))))⟩
  · subst h
    obtain ⟨F, lo, hi, z, hQ, hP⟩ := rf_fuse (a := a) (b := b) hp hp2 ha hb Ha Hb
    exact ⟨F, lo, hi, z, hQ, fun md f2 a1 a2 post hmd h1 h2 h3 h4 H => br_f (by decide) (br_f (by decide) (br_f (by decide) (br_f (by decide) (br_f (by decide) (hP 3 md f2 a1 a2 _ (by omega) hmd h1 h2 h3 h4 H)))))⟩
/-- the checks at the end of modes -/
theorem rf_mtail {post : Int32 → St1 → Prop} {f0 f1 f2 F : Int32} {a1 a2 : Nat → Int32} {lo hi z v0 v1 v2 v3 : Int} (hQ : rf_Q F lo hi z) (o1 : rf_O 1 lo hi z v1) (o0 : rf_O 0 lo hi z v0) (o2 : rf_O 2 lo hi z v2) (o3 : rf_O 3 lo hi z v3)
    (b0 : -8589934592 < v0 ∧ v0 < 8589934592) (b1 : -8589934592 < v1 ∧ v1 < 8589934592) (b2 : -8589934592 < v2 ∧ v2 < 8589934592) (b3 : -8589934592 < v3 ∧ v3 < 8589934592)
    (H : post 1 (f0, f1, f2, a1, a2)) :
    ((F &&& 1) = 0 → wL_modes_98 post F (rf_L v1) F (rf_L v0) (rf_L v2) (rf_L v3) 1 f0 f1 f2 a1 a2) ∧ (¬ (F &&& 1) = 0 → wL_modes_98 post F (rf_L v1) F (rf_L v0) (rf_L v2) (rf_L v3) 0 f0 f1 f2 a1 a2) := by
  obtain ⟨q1, q2, q3, q4⟩ := hQ
  have e1 : v1 = lo := o1.2.1 rfl
  have e2 : v2 = hi := o2.2.2.1 rfl
  have e3 : v3 = z := o3.2.2.2 rfl
  have e0 : v0 = lo ∨ v0 = hi := o0.1
  have h166 : wL_modes_166 post F F 1 f0 f1 f2 a1 a2 := br_f rf_n1 (br_t rfl H)
  have h119 : ∀ x14 : Int32, (x14 = 0 ∨ lo = hi) → wL_modes_119 post F (rf_L v1) F (rf_L v0) (rf_L v2) (rf_L v3) x14 1 f0 f1 f2 a1 a2 := by
    intro x14 hx
    have h153 : wL_modes_153 post F (rf_L v1) F (rf_L v2) x14 1 f0 f1 f2 a1 a2 := by
      by_cases hz : x14 = 0
      · exact br_t hz h166
      · have hl : lo = hi := hx.resolve_left hz
        refine br_f hz (rf_Leq v1 v2 (fun _ => h166) (fun y => absurd y (by omega)))
    refine rf_Llt v0 v1 (fun y => absurd y (by omega)) (fun _ => rf_Llt v2 v0 (fun y => absurd y (by omega)) (fun _ => rf_Leq v3 v1 (fun _ => h153) (fun y1 => rf_Leq v3 v2 (fun _ => h153) (fun y2 => absurd y2 (by omega)))))
  have h98 : ∀ x14 : Int32, (x14 = 0 ∨ lo = hi) → wL_modes_98 post F (rf_L v1) F (rf_L v0) (rf_L v2) (rf_L v3) x14 f0 f1 f2 a1 a2 := by
    intro x14 hx
    refine br_c (fun _ => h119 x14 hx) (fun g2 => br_f ?_ (h119 x14 hx))
    rcases q4 with h | h
    · exact absurd h g2
    · exact h
  exact br_c (fun g => h98 1 (Or.inr (q3 g))) (fun _ => h98 0 (Or.inl rfl))
theorem rf_modes {post : Int32 → St1 → Prop} {p a b op : Nat} {f1 f2 : Int32} {a1 a2 : Nat → Int32} (hp : 2 ≤ p) (hp2 : p ≤ 10) (ha : a < 3) (hb : b < 3) (hop : op < 6) (hK : rf_K p a1 a2)
    (H : ∀ (fl : Int32) (b1 b2 : Nat → Int32), rf_K p b1 b2 → post 1 (nI p, nI 3, fl, b1, b2)) : wpL_modes post (nI p, f1, f2, a1, a2) (nI op) (nI a) (nI b) := by
  obtain ⟨ga, Ha⟩ := hK a (by omega)
  obtain ⟨gb, Hb⟩ := hK b (by omega)
  obtain ⟨F, lo, hi, z, hQ, hP⟩ := rf_apply (op := op) hp hp2 ha hb hop Ha Hb
  have na : a ≠ 3 := by omega
  have nb : b ≠ 3 := by omega
  unfold wpL_modes
  dsimp only
  refine rf_setMode (k := 1) (by omega) ?_
  refine hP 1 f2 a1 a2 _ (by omega) rfl rfl rfl rfl (fun v1 fl1 m1 e1 o1 R1 => ?_)
  refine rf_get3 hp2 R1 ?_
  refine rf_setMode (k := 0) (by omega) ?_
  refine hP 0 fl1 (upd a1 3 m1) (upd a2 3 e1) _ (by omega) (pk_un na) (pk_un na) (pk_un nb) (pk_un nb) (fun v0 fl0 m0 e0 o0 R0 => ?_)
  refine rf_get3 hp2 R0 ?_
  refine rf_setMode (k := 2) (by omega) ?_
  refine hP 2 fl0 _ _ _ (by omega) ((pk_un na).trans (pk_un na)) ((pk_un na).trans (pk_un na)) ((pk_un nb).trans (pk_un nb)) ((pk_un nb).trans (pk_un nb)) (fun v2 fl2 m2 e2 o2 R2 => ?_)
  refine rf_get3 hp2 R2 ?_
  refine rf_setMode (k := 3) (by omega) ?_
  refine hP 3 fl2 _ _ _ (by omega) ((pk_un na).trans ((pk_un na).trans (pk_un na))) ((pk_un na).trans ((pk_un na).trans (pk_un na))) ((pk_un nb).trans ((pk_un nb).trans (pk_un nb))) ((pk_un nb).trans ((pk_un nb).trans (pk_un nb))) (fun v3 fl3 m3 e3 o3 R3 => ?_)
  refine rf_get3 hp2 R3 ?_
  exact rf_mtail hQ o1 o0 o2 o3 (rf_Rv hp2 R0) (rf_Rv hp2 R1) (rf_Rv hp2 R2) (rf_Rv hp2 R3) (H _ _ _ (rf_Ku (rf_Ku (rf_Ku (rf_Ku hK R1) R0) R2) R3))
end
section
/-- a number of p bits, k units of 2^u -/
def rf_C (p k u : Nat) : Prop := k < 2 ^ p ∧ u ≤ 23 ∧ (u = 0 ∨ 2 ^ (p - 1) ≤ k)
/-- its neighbour -/
def rf_nx (p : Nat) (out : Int32) (k u : Nat) : Nat := if out = 0 then (if k = 2 ^ (p - 1) ∧ 0 < u then (2 ^ p - 1) * 2 ^ (u - 1) else (k - 1) * 2 ^ u) else (k + 1) * 2 ^ u
theorem rf_n132 {post : Int32 → St1 → Prop} {p r k u : Nat} {neg out f1 f2 z0 : Int32} {z1 : Int64} {a1 a2 : Nat → Int32} (hr : r < 4) (hp : 2 ≤ p) (hp2 : p ≤ 10) (hC : rf_C p k u) (hk : out = 0 → 1 ≤ k) (hz : z1 <<< (z0.toInt64 &&& 63) = lN k)
    (H0 : post 0 (nI p, f1, f2, a1, a2))
    (H1 : ¬ (¬ out = 0 ∧ u = 23 ∧ k = 2 ^ p - 1) → ∀ m e : Int32, rf_R p (rf_s neg * ((rf_nx p out k u : Nat) : Int)) m e → post 1 (nI p, f1, f2, upd a1 r m, upd a2 r e)) :
    wX_next_132 post (nI r) neg out (rf_I ((u : Int) - 12)) z0 z1 (nI p) f1 f2 a1 a2 := by
  obtain ⟨c1, c2, c3⟩ := hC
  have hp10 : 2 ^ p ≤ 2 ^ 10 := rf_pm hp2
  have hpp : 2 ^ (p - 1) ≤ 2 ^ 10 := rf_pm (by omega)
  have ep : nI p - 1 = nI (p - 1) := by
    have h := nI_pred (p - 1)
    rw [show p - 1 + 1 = p by omega] at h
    exact h
  unfold wX_next_132
  refine nm_r hz ?_
  rw [ep, rf_one (show p - 1 < 64 by omega), rf_one1 (show p < 64 by omega)]
  by_cases ho : out = 0
  · have hk1 := hk ho
    have H1' := H1 (fun z => z.1 ho)
    unfold rf_nx at H1'
    rw [if_pos ho] at H1'
    have h203 : ¬ (k = 2 ^ (p - 1) ∧ 0 < u) → wX_next_203 post (nI r) neg (rf_I ((u : Int) - 12)) (lN k) (nI p) f1 f2 a1 a2 := by
      intro hn
      rw [if_neg hn] at H1'
      refine br_t rfl (br_t rfl ?_)
      have e : lN k - 1 = lN (k - 1) := lN_sub (b := 1) hk1
      rw [e]
      exact rf_store hr (by omega) hp2 (by omega) (rf_keptG (by omega) c2) H1'
    refine br_t ho (rf_leq k (2 ^ (p - 1)) (fun z => rf_le ((u : Int) - 12) (-12) (fun z2 => h203 (by omega)) (fun z2 => ?_)) (fun z => h203 (fun y => z y.1)))
    rw [if_pos ⟨z, by omega⟩] at H1'
    refine br_f rf_n1 (br_f rf_n1 ?_)
    have e : rf_I ((u : Int) - 12) - 1 = rf_I (((u - 1 : Nat) : Int) - 12) := by
      have h := rf_Isub ((u : Int) - 12) 1
      rw [show (u : Int) - 12 - 1 = ((u - 1 : Nat) : Int) - 12 by omega] at h
      exact h
    rw [e, rf_one1 (show p < 64 by omega)]
    exact rf_store hr (by omega) hp2 (Nat.sub_le _ _) (rf_keptG (by have := rf_pp p; omega) (by omega)) H1'
  · refine br_f ho ?_
    have h163 : ¬ (u = 23 ∧ k = 2 ^ p - 1) → wX_next_163 post (nI r) neg (rf_I ((u : Int) - 12)) (lN k) (nI p) f1 f2 a1 a2 := by
      intro hn
      have H1' := H1 (fun z => hn z.2)
      unfold rf_nx at H1'
      rw [if_neg ho] at H1'
      unfold wX_next_163
      rw [lN_1]
      exact rf_store hr (by omega) hp2 (by omega) (rf_keptG1 c1 c2 hn) H1'
    exact rf_eq ((u : Int) - 12) 11 (fun z => rf_leq k (2 ^ p - 1) (fun _ => H0) (fun y => h163 (fun w => y w.2))) (fun z => h163 (fun w => z (by omega)))
/-- the unit that next computes is the number's own -/
theorem rf_unit {p k u t : Nat} {N : Nat} (hp : 2 ≤ p) (hC : rf_C p k u) (hN : N ≠ 0) (hNp : N < 2 ^ p) (e : N * 2 ^ t = k * 2 ^ u) :
    ((u : Int) = (rf_bl N : Int) + t - p ∨ (u = 0 ∧ rf_bl N + t < p)) ∧ u ≤ t := by
  obtain ⟨c1, c2, c3⟩ := hC
  have b1 : N * 2 ^ t < 2 ^ (rf_bl N + t) := by
    rw [rf_pa]
    exact Nat.mul_lt_mul_of_pos_right (rf_bl_lt N) (rf_pp t)
  have hb0 := rf_bl_pos hN
  have b2 : 2 ^ (rf_bl N - 1 + t) ≤ N * 2 ^ t := by
    rw [rf_pa]
    exact Nat.mul_le_mul_right _ (rf_bl_ge (by omega))
  have b3 : rf_bl N ≤ p := (rf_bl_iff N p).mpr hNp
  have b4 : k * 2 ^ u < 2 ^ (p + u) := by
    rw [rf_pa]
    exact Nat.mul_lt_mul_of_pos_right c1 (rf_pp u)
  have d1 : rf_bl N - 1 + t < p + u := rf_plt (Nat.lt_of_le_of_lt b2 (by rw [e]; exact b4))
  rcases c3 with c3 | c3
  · subst c3
    refine ⟨?_, Nat.zero_le t⟩
    by_cases h : rf_bl N + t < p
    · exact Or.inr ⟨rfl, h⟩
    · exact Or.inl (by omega)
  · have b5 : 2 ^ (p - 1 + u) ≤ k * 2 ^ u := by
      rw [rf_pa]
      exact Nat.mul_le_mul_right _ c3
    have d2 : p - 1 + u < rf_bl N + t := rf_plt (Nat.lt_of_le_of_lt b5 (by rw [← e]; exact b1))
    exact ⟨Or.inl (by omega), by omega⟩
theorem rf_next {post : Int32 → St1 → Prop} {p r k u : Nat} {g : Int} {neg out up f1 f2 : Int32} {a1 a2 : Nat → Int32} (hr : r < 4) (hp : 2 ≤ p) (hp2 : p ≤ 10) (hR : rf_R p g (a1 r) (a2 r)) (hC : rf_C p k u)
    (hg : g = rf_s neg * ((k * 2 ^ u : Nat) : Int)) (hneg : neg = 0 ∨ neg = 1) (hup : up = 0 ∨ up = 1) (hz : k = 0 → ¬ neg = up) (ho : out = if neg = up then 0 else 1)
    (H0 : post 0 (nI p, f1, f2, a1, a2))
    (H1 : ¬ (¬ out = 0 ∧ u = 23 ∧ k = 2 ^ p - 1) → ∀ m e : Int32, rf_R p (rf_s neg * ((rf_nx p out k u : Nat) : Int)) m e → post 1 (nI p, f1, f2, upd a1 r m, upd a2 r e)) :
    wpX_next post (nI p, f1, f2, a1, a2) (nI r) up := by
  obtain ⟨M, t, m1, m2, m3, m4, m5, m6⟩ := hR
  have cr : (nI r).toNatClampNeg = r := nI_clamp (by omega)
  have ir : vp_in (nI r) 4 := vp_in_nI hr (by omega)
  have hp10 : 2 ^ p ≤ 2 ^ 10 := rf_pm hp2
  have hG : M.natAbs * 2 ^ t = k * 2 ^ u := by
    have h1 : g.natAbs = M.natAbs * 2 ^ t := by rw [m3, Int.natAbs_mul, Int.natAbs_natCast]
    have h2 : g.natAbs = k * 2 ^ u := by
      rw [hg]
      unfold rf_s
      by_cases h : neg = 0
      · rw [if_pos h]; omega
      · rw [if_neg h]; omega
    omega
  have hk0 : k = 0 ↔ M.natAbs = 0 := by
    constructor
    · intro h
      rw [h, Nat.zero_mul] at hG
      rcases Nat.mul_eq_zero.mp hG with h2 | h2
      · exact h2
      · exact absurd h2 (by have := rf_pp t; omega)
    · intro h
      rw [h, Nat.zero_mul] at hG
      rcases Nat.mul_eq_zero.mp hG.symm with h2 | h2
      · exact h2
      · exact absurd h2 (by have := rf_pp u; omega)
  have hout : out = 0 → 1 ≤ k := by
    intro h
    by_cases h2 : neg = up
    · exact Nat.pos_of_ne_zero (fun y => hz y h2)
    · rw [if_neg h2] at ho
      exact absurd (ho.symm.trans h) rf_n1
  have hbl : rf_bl M.natAbs ≤ 10 := (rf_bl_iff _ 10).mpr (by omega)
  have ht : t ≤ 32 := by
    rcases m6 with m6 | m6
    · omega
    · have h7 : 1 * 2 ^ t ≤ M.natAbs * 2 ^ t := Nat.mul_le_mul_right _ (by omega)
      rw [Nat.one_mul] at h7
      have := rf_plt (Nat.lt_of_le_of_lt h7 m5)
      omega
  have h110 : wX_next_110 post (nI r) (lN M.natAbs) neg out (rf_I ((u : Int) - 12)) (nI p) f1 f2 a1 a2 := by
    unfold wX_next_110
    rw [cr, m2]
    refine rf_leq M.natAbs 0 (fun y => rf_n132 hr hp hp2 hC hout ?_ H0 H1) (fun y => ⟨ir, rf_n132 hr hp hp2 hC hout ?_ H0 H1⟩)
    · rw [y, hk0.mpr y]
      rfl
    · obtain ⟨_, hut⟩ := rf_unit hp hC y m4 hG
      rw [rf_Isub, show (t : Int) - 12 - ((u : Int) - 12) = ((t - u : Nat) : Int) by omega, ← rf_nI, wb_shl _ (by omega)]
      congr 1
      apply Nat.eq_of_mul_eq_mul_right (rf_pp u)
      rw [Nat.mul_assoc, ← rf_pa, show t - u + u = t by omega]
      exact hG
  have h65 : wX_next_65 post (nI r) (lN M.natAbs) neg out (nI p) f1 f2 a1 a2 := by
    unfold wX_next_65
    refine rf_bits (by omega) ⟨ir, ?_⟩
    rw [cr, m2]
    refine nm_r (e' := rf_I ((rf_bl M.natAbs : Int) + ((t : Int) - 12))) (by rw [rf_nI, rf_Iadd]) ?_
    have e : rf_I ((rf_bl M.natAbs : Int) + ((t : Int) - 12)) - nI p = rf_I ((rf_bl M.natAbs : Int) + ((t : Int) - 12) - p) := by rw [rf_nI, rf_Isub]
    rw [e]
    refine rf_leq M.natAbs 0 (fun y => ?_) (fun y => ?_)
    · have hu : u = 0 := by
        have := hk0.mpr y
        obtain ⟨_, _, c3⟩ := hC
        rcases c3 with c3 | c3
        · exact c3
        · exact absurd c3 (by have := rf_pp (p - 1); omega)
      rw [hu] at h110
      exact h110
    · obtain ⟨hu, _⟩ := rf_unit hp hC y m4 hG
      refine rf_le (-12) ((rf_bl M.natAbs : Int) + ((t : Int) - 12) - p) (fun w => ?_) (fun w => ?_)
      · rw [show (u : Int) - 12 = (rf_bl M.natAbs : Int) + ((t : Int) - 12) - p by omega] at h110
        exact h110
      · have hu0 : u = 0 := by omega
        rw [hu0] at h110
        exact h110
  have h52 : wX_next_52 post (nI r) up (lN M.natAbs) neg (nI p) f1 f2 a1 a2 := by
    unfold wX_next_52
    by_cases h : neg = up
    · rw [if_pos h] at ho
      rw [ho] at h65
      exact br_t h h65
    · rw [if_neg h] at ho
      rw [ho] at h65
      exact br_f h h65
  unfold wpX_next
  dsimp only
  rw [cr, m1, rf_IL (by omega)]
  refine rf_isr hr (br_f rf_n1 ⟨ir, rf_size (by omega) (rf_leq M.natAbs 0 (fun y => ?_) (fun y => ⟨ir, ?_⟩))⟩)
  · have hnu := hz (hk0.mpr y)
    rcases hup with h | h
    · have hn : neg = 1 := hneg.resolve_left (fun w => hnu (w.trans h.symm))
      rw [hn] at h52
      exact br_t h h52
    · have hn : neg = 0 := hneg.resolve_right (fun w => hnu (w.trans h.symm))
      rw [hn] at h52
      exact br_f (by rw [h]; exact rf_n1) h52
  · have hpos : 0 < ((k * 2 ^ u : Nat) : Int) := by
      have : 0 < k * 2 ^ u := Nat.mul_pos (Nat.pos_of_ne_zero (fun w => y (hk0.mp w))) (rf_pp u)
      omega
    have hpt : 0 < ((2 ^ t : Nat) : Int) := Int.natCast_pos.mpr (rf_pp t)
    refine rf_le 0 M (fun w => ?_) (fun w => ?_)
    · have hn : neg = 0 := by
        rcases hneg with h | h
        · exact h
        · have hge : 0 ≤ g := by rw [m3]; exact Int.mul_nonneg w (Int.le_of_lt hpt)
          rw [hg, rf_s1 (by rw [h]; exact rf_n1)] at hge
          omega
      rw [hn] at h52
      exact h52
    · have hn : neg = 1 := by
        rcases hneg with h | h
        · have hle : g < 0 := by rw [m3]; exact Int.mul_neg_of_neg_of_pos w hpt
          rw [hg, rf_s0 h] at hle
          omega
        · exact h
      rw [hn] at h52
      exact h52
end
section
theorem rf_canon {p : Nat} {g : Int} {m e : Int32} (hp : 2 ≤ p) (h : rf_R p g m e) : ∃ (neg : Int32) (k u : Nat), (neg = 0 ∨ neg = 1) ∧ rf_C p k u ∧ g = rf_s neg * ((k * 2 ^ u : Nat) : Int) := by
  obtain ⟨M, t, m1, m2, m3, m4, m5, m6⟩ := h
  have hC : ∃ k u : Nat, rf_C p k u ∧ M.natAbs * 2 ^ t = k * 2 ^ u := by
    by_cases h0 : M.natAbs = 0
    · exact ⟨0, 0, ⟨rf_pp p, by omega, Or.inl rfl⟩, by rw [h0, Nat.zero_mul, Nat.zero_mul]⟩
    · have hb0 := rf_bl_pos h0
      have b1 : M.natAbs * 2 ^ t < 2 ^ (rf_bl M.natAbs + t) := by
        rw [rf_pa]
        exact Nat.mul_lt_mul_of_pos_right (rf_bl_lt _) (rf_pp t)
      have b2 : 2 ^ (rf_bl M.natAbs - 1 + t) ≤ M.natAbs * 2 ^ t := by
        rw [rf_pa]
        exact Nat.mul_le_mul_right _ (rf_bl_ge (by omega))
      have b3 : rf_bl M.natAbs ≤ p := (rf_bl_iff _ p).mpr m4
      have d1 : rf_bl M.natAbs - 1 + t < p + 23 := rf_plt (Nat.lt_of_le_of_lt b2 m5)
      by_cases hb : rf_bl M.natAbs + t ≤ p
      · refine ⟨M.natAbs * 2 ^ t, 0, ⟨Nat.lt_of_lt_of_le b1 (rf_pm hb), by omega, Or.inl rfl⟩, ?_⟩
        rw [Nat.pow_zero, Nat.mul_one]
      · obtain ⟨u, hu⟩ : ∃ u : Nat, rf_bl M.natAbs + t = p + u := ⟨rf_bl M.natAbs + t - p, by omega⟩
        refine ⟨M.natAbs * 2 ^ (t - u), u, ⟨?_, by omega, Or.inr ?_⟩, ?_⟩
        · have : M.natAbs * 2 ^ (t - u) < 2 ^ (rf_bl M.natAbs + (t - u)) := by
            rw [rf_pa]
            exact Nat.mul_lt_mul_of_pos_right (rf_bl_lt _) (rf_pp _)
          exact Nat.lt_of_lt_of_le this (rf_pm (by omega))
        · have : 2 ^ (rf_bl M.natAbs - 1 + (t - u)) ≤ M.natAbs * 2 ^ (t - u) := by
            rw [rf_pa]
            exact Nat.mul_le_mul_right _ (rf_bl_ge (by omega))
          exact Nat.le_trans (rf_pm (by omega)) this
        · rw [Nat.mul_assoc, ← rf_pa, show t - u + u = t by omega]
  obtain ⟨k, u, hC, hG⟩ := hC
  by_cases hs : 0 ≤ M
  · refine ⟨0, k, u, Or.inl rfl, hC, ?_⟩
    rw [rf_s0 rfl, Int.one_mul, ← hG, m3, Int.natCast_mul, Int.natAbs_of_nonneg hs]
  · refine ⟨1, k, u, Or.inr rfl, hC, ?_⟩
    have e : M = -1 * (M.natAbs : Int) := by omega
    rw [rf_s1 rf_n1, ← hG, m3, Int.natCast_mul, ← Int.mul_assoc, ← e]
/-- there and back -/
theorem rf_back {p k u : Nat} {out out' : Int32} (hp : 2 ≤ p) (hC : rf_C p k u) (hs : ¬ (¬ out = 0 ∧ u = 23 ∧ k = 2 ^ p - 1)) (hk : out = 0 → 1 ≤ k) (ho : out = 0 → ¬ out' = 0) (ho' : ¬ out = 0 → out' = 0) :
    ∃ k' u' : Nat, rf_C p k' u' ∧ k' * 2 ^ u' = rf_nx p out k u ∧ (k' = 0 → out = 0) ∧ rf_nx p out' k' u' = k * 2 ^ u := by
  obtain ⟨c1, c2, c3⟩ := hC
  have e2 : 2 ^ p = 2 * 2 ^ (p - 1) := by
    obtain ⟨q, rfl⟩ : ∃ q, p = q + 1 := ⟨p - 1, by omega⟩
    rw [Nat.pow_succ, Nat.mul_comm, Nat.add_sub_cancel]
  have hpp : 2 ≤ 2 ^ (p - 1) := by
    have : 2 ^ 1 ≤ 2 ^ (p - 1) := rf_pm (by omega)
    omega
  unfold rf_nx
  by_cases h : out = 0
  · have hk1 := hk h
    simp only [if_pos h, if_neg (ho h)]
    by_cases hx : k = 2 ^ (p - 1) ∧ 0 < u
    · rw [if_pos hx]
      refine ⟨2 ^ p - 1, u - 1, ⟨by omega, by omega, Or.inr (by omega)⟩, rfl, fun _ => h, ?_⟩
      obtain ⟨v, rfl⟩ : ∃ v, u = v + 1 := ⟨u - 1, by omega⟩
      rw [hx.1, Nat.add_sub_cancel, show 2 ^ p - 1 + 1 = 2 * 2 ^ (p - 1) by omega, Nat.pow_succ, Nat.mul_comm 2, Nat.mul_assoc, Nat.mul_comm 2]
    · rw [if_neg hx]
      refine ⟨k - 1, u, ⟨by omega, c2, ?_⟩, rfl, fun _ => h, ?_⟩
      · rcases c3 with c3 | c3
        · exact Or.inl c3
        · by_cases hu : u = 0
          · exact Or.inl hu
          · have : k ≠ 2 ^ (p - 1) := fun y => hx ⟨y, by omega⟩
            exact Or.inr (by omega)
      · rw [show k - 1 + 1 = k by omega]
  · simp only [if_neg h, if_pos (ho' h)]
    by_cases hx : k + 1 < 2 ^ p
    · refine ⟨k + 1, u, ⟨hx, c2, ?_⟩, rfl, fun y => absurd y (by omega), ?_⟩
      · rcases c3 with c3 | c3
        · exact Or.inl c3
        · exact Or.inr (by omega)
      · rw [if_neg (show ¬ (k + 1 = 2 ^ (p - 1) ∧ 0 < u) by omega), Nat.add_sub_cancel]
    · have ek : k + 1 = 2 ^ p := by omega
      have hu : u ≠ 23 := fun y => hs ⟨h, y, by omega⟩
      refine ⟨2 ^ (p - 1), u + 1, ⟨by omega, by omega, Or.inr (Nat.le_refl _)⟩, ?_, fun y => absurd y (by omega), ?_⟩
      · rw [ek, e2, Nat.pow_succ, Nat.mul_comm (2 ^ u) 2, ← Nat.mul_assoc, Nat.mul_comm (2 ^ (p - 1)) 2]
      · rw [if_pos ⟨rfl, by omega⟩, Nat.add_sub_cancel, show 2 ^ p - 1 = k by omega]
theorem rf_o113 {post : Int32 → St1 → Prop} {v : Int} {f0 f1 f2 : Int32} {a1 a2 : Nat → Int32} (H : post 1 (f0, f1, f2, a1, a2)) : wL_others_112 post (rf_L v) (rf_L v) f0 f1 f2 a1 a2 :=
  br_t rfl (br_t rfl H)
theorem rf_o48 {post : Int32 → St1 → Prop} {p a b : Nat} {up f2 : Int32} {a1 a2 : Nat → Int32} (hp : 2 ≤ p) (hp2 : p ≤ 10) (ha : a < 3) (hb : b < 3) (hup : up = 0 ∨ up = 1) (hK : rf_K p a1 a2)
    (H : ∀ (fl : Int32) (b1 b2 : Nat → Int32), rf_K p b1 b2 → post 1 (nI p, nI 3, fl, b1, b2)) : wL_others_48 post (nI a) (nI b) up (nI p) (nI 3) f2 a1 a2 := by
  obtain ⟨ga, Ha⟩ := hK a (by omega)
  obtain ⟨gb, Hb⟩ := hK b (by omega)
  obtain ⟨F, lo, hi, z, hQ, hP1, hP2⟩ := rf_mul (a := a) (b := b) hp hp2 (by omega) (by omega) Ha Hb
  have na : a ≠ 3 := by omega
  have nb : b ≠ 3 := by omega
  unfold wL_others_48
  refine hP1 3 3 f2 a1 a2 _ (by omega) (by omega) rfl rfl rfl rfl (fun v1 fl1 m1 e1 o1 R1 => ?_)
  refine rf_get3 hp2 R1 ?_
  refine hP2 3 3 fl1 _ _ _ (by omega) (by omega) (pk_un na) (pk_un na) (pk_un nb) (pk_un nb) (fun v2 fl2 m2 e2 o2 R2 => ?_)
  refine rf_get3 hp2 R2 ?_
  have ev : v1 = v2 := (o1.2.2.2 rfl).trans (o2.2.2.2 rfl).symm
  subst ev
  have hK2 : rf_K p (upd (upd a1 3 m1) 3 m2) (upd (upd a2 3 e1) 3 e2) := rf_Ku (rf_Ku hK R1) R2
  have R2' : rf_R p v1 (upd (upd a1 3 m1) 3 m2 3) (upd (upd a2 3 e1) 3 e2 3) := by rw [pk_us, pk_us]; exact R2
  obtain ⟨neg0, k, u, hn0, hC, hg0⟩ := rf_canon hp R2
  obtain ⟨neg, hn, hg, hz⟩ : ∃ neg : Int32, (neg = 0 ∨ neg = 1) ∧ v1 = rf_s neg * ((k * 2 ^ u : Nat) : Int) ∧ (k = 0 → ¬ neg = up) := by
    by_cases h0 : k = 0
    · have hv : ∀ s : Int32, v1 = rf_s s * ((k * 2 ^ u : Nat) : Int) := by
        intro s
        rw [hg0, h0, Nat.zero_mul]
        show _ * (0 : Int) = _ * (0 : Int)
        rw [Int.mul_zero, Int.mul_zero]
      rcases hup with h | h
      · exact ⟨1, Or.inr rfl, hv 1, fun _ => by rw [h]; exact rf_n1⟩
      · exact ⟨0, Or.inl rfl, hv 0, fun _ => by rw [h]; decide⟩
    · exact ⟨neg0, hn0, hg0, fun y => absurd y h0⟩
  obtain ⟨out, hout⟩ : ∃ out : Int32, out = if neg = up then 0 else 1 := ⟨_, rfl⟩
  refine rf_next (r := 3) (by omega) hp hp2 R2' hC hg hn hup hz hout ?_ (fun hs m3 e3 R3 => ?_)
  · exact br_t rfl (rf_o113 (H _ _ _ hK2))
  · have hk : out = 0 → 1 ≤ k := by
      intro h
      by_cases h2 : neg = up
      · exact Nat.pos_of_ne_zero (fun y => hz y h2)
      · rw [if_neg h2] at hout
        exact absurd (hout.symm.trans h) rf_n1
    have hK3 := rf_Ku (r := 3) hK2 R3
    have R3' : rf_R p (rf_s neg * ((rf_nx p out k u : Nat) : Int)) (upd (upd (upd a1 3 m1) 3 m2) 3 m3 3) (upd (upd (upd a2 3 e1) 3 e2) 3 e3 3) := by rw [pk_us, pk_us]; exact R3
    have h102 : ∀ up' : Int32, (up' = 0 ∨ up' = 1) → ¬ up' = up → wL_others_102 post (rf_L v1) (rf_L v1) up' 3 (nI p) (nI 3) fl2 (upd (upd (upd a1 3 m1) 3 m2) 3 m3) (upd (upd (upd a2 3 e1) 3 e2) 3 e3) := by
      intro up' hup' hne
      obtain ⟨out', hout'⟩ : ∃ out' : Int32, out' = if neg = up' then 0 else 1 := ⟨_, rfl⟩
      have x1 : out = 0 → neg = up := by
        intro y
        by_cases h2 : neg = up
        · exact h2
        · rw [if_neg h2] at hout
          exact absurd (hout.symm.trans y) rf_n1
      have x2 : ¬ out = 0 → neg = up' := by
        intro y
        have h2 : ¬ neg = up := fun w => y (hout.trans (if_pos w))
        rcases hn with h3 | h3 <;> rcases hup with h4 | h4 <;> rcases hup' with h5 | h5
        · exact absurd (h3.trans h4.symm) h2
        · exact absurd (h3.trans h4.symm) h2
        · exact h3.trans h5.symm
        · exact absurd (h5.trans h4.symm) hne
        · exact absurd (h5.trans h4.symm) hne
        · exact h3.trans h5.symm
        · exact absurd (h3.trans h4.symm) h2
        · exact absurd (h3.trans h4.symm) h2
      have y1 : out = 0 → ¬ out' = 0 := by
        intro y w
        have h2 : ¬ neg = up' := fun q => hne (q.symm.trans (x1 y))
        rw [if_neg h2] at hout'
        exact rf_n1 (hout'.symm.trans w)
      have y2 : ¬ out = 0 → out' = 0 := fun y => hout'.trans (if_pos (x2 y))
      obtain ⟨k', u', hC', e1', e2', e3'⟩ := rf_back (out' := out') hp hC hs hk y1 y2
      unfold wL_others_102
      refine rf_next (r := 3) (by omega) hp hp2 R3' hC' (by rw [e1']) hn hup' (fun y q => hne (q.symm.trans (x1 (e2' y)))) hout' ?_ (fun _ m4 e4 R4 => ?_)
      · exact br_t rfl (rf_o113 (H _ _ _ hK3))
      · rw [e3', ← hg] at R4
        refine br_f rf_n1 (br_t rfl (br_f rf_n1 (rf_get3 hp2 R4 (br_t rfl (H _ _ _ (rf_Ku hK3 R4))))))
    refine br_f rf_n1 ?_
    rcases hup with h | h
    · exact br_t h (h102 1 (Or.inr rfl) (by rw [h]; exact rf_n1))
    · exact br_f (by rw [h]; exact rf_n1) (h102 0 (Or.inl rfl) (by rw [h]; decide))
theorem rf_others {post : Int32 → St1 → Prop} {p a b : Nat} {up f2 : Int32} {a1 a2 : Nat → Int32} (hp : 2 ≤ p) (hp2 : p ≤ 10) (ha : a < 3) (hb : b < 3) (hup : up = 0 ∨ up = 1) (hK : rf_K p a1 a2)
    (H : ∀ (fl : Int32) (b1 b2 : Nat → Int32), rf_K p b1 b2 → post 1 (nI p, nI 3, fl, b1, b2)) : wpL_others post (nI p, nI 3, f2, a1, a2) (nI a) (nI b) up := by
  obtain ⟨ga, Ha⟩ := hK a (by omega)
  obtain ⟨gb, Hb⟩ := hK b (by omega)
  obtain ⟨F, lo, hi, z, hQ, hE, hP⟩ := rf_add (a := a) (b := b) hp hp2 (by omega) (by omega) Ha Hb
  have na : a ≠ 3 := by omega
  have nb : b ≠ 3 := by omega
  unfold wpL_others
  dsimp only
  refine hP 3 3 f2 a1 a2 _ (by omega) (by omega) rfl rfl rfl rfl (fun v1 fl1 m1 e1 o1 R1 => ?_)
  have hK1 : rf_K p (upd a1 3 m1) (upd a2 3 e1) := rf_Ku hK R1
  refine br_c (fun g1 => ?_) (fun _ => rf_o48 hp hp2 ha hb hup hK1 H)
  have ev1 : v1 = ga + gb := by
    have q3 := hQ.2.2.1 g1
    have q0 := hE g1
    rcases o1.1 with h | h
    · exact h.trans q0
    · exact h.trans (q3.symm.trans q0)
  obtain ⟨F', lo', hi', z', hQ', hE', hP'⟩ := rf_sub (a := 3) (b := b) hp hp2 (by omega) (by omega) R1 Hb
  refine hP' 3 3 fl1 (upd a1 3 m1) (upd a2 3 e1) _ (by omega) (by omega) pk_us pk_us (pk_un nb) (pk_un nb) (fun v2 fl2 m2 e2 o2 R2 => ?_)
  have hK2 : rf_K p (upd (upd a1 3 m1) 3 m2) (upd (upd a2 3 e1) 3 e2) := rf_Ku hK1 R2
  refine br_c (fun g2 => ?_) (fun _ => rf_o48 hp hp2 ha hb hup hK2 H)
  have ev2 : v2 = ga := by
    have q3 := hQ'.2.2.1 g2
    have q0 := hE' g2
    have : v2 = lo' := by
      rcases o2.1 with h | h
      · exact h
      · exact h.trans q3.symm
    omega
  refine rf_get3 hp2 R2 (rf_get (p := p) (g := ga) hp2 (by omega) ?_ ?_)
  · show rf_R p ga (upd (upd a1 3 m1) 3 m2 a) (upd (upd a2 3 e1) 3 e2 a)
    rw [pk_un na, pk_un na, pk_un na, pk_un na]
    exact Ha
  · exact br_t (by rw [ev2]) (rf_o48 hp hp2 ha hb hup hK2 H)
end
section
theorem rf_odd {M : Int} (h : -1024 < M ∧ M < 1024) (ho : M % 2 = 1) : ¬ rf_I M - rf_I M / 2 * 2 = 0 := by
  intro hz
  have e : rf_I M = 0 + rf_I M / 2 * 2 := Int32.sub_eq_iff_eq_add.mp hz
  rw [Int32.zero_add] at e
  have e2 := congrArg Int32.toInt e
  rw [rf_It (by omega), Int32.toInt_mul] at e2
  have e3 : M % ((2 ^ 32 : Nat) : Int) = ((rf_I M / 2).toInt * (2 : Int32).toInt) % ((2 ^ 32 : Nat) : Int) := by
    have e5 := congrArg (fun x : Int => x % ((2 ^ 32 : Nat) : Int)) e2
    exact e5.trans Int.bmod_emod
  have e4 : (2 : Int32).toInt = 2 := by decide
  rw [e4] at e3
  omega
theorem rf_normal {post : Int32 → Prop} {p : Nat} {f0 f1 f2 : Int32} {a1 a2 : Nat → Int32} (hp2 : p ≤ 10) (hK : rf_K p a1 a2) (H : post 1) : wpL_normal post (f0, f1, f2, a1, a2) := by
  refine pk_loop (σ := Unit) (fun n i _ => wL_normal_4 post f0 f1 f2 a1 a2 n 1 (nI i)) (fun _ _ => True) 4 0 () (by omega) trivial (fun n _ _ => pk_le 4 4 (fun _ => ⟨rfl, H⟩) (fun z => absurd z (by omega))) (fun n i _ hi _ hw => ?_)
  have hw' : wL_normal_4 post f0 f1 f2 a1 a2 n 1 (nI (i + 1)) := hw () trivial
  refine pk_le 4 i (fun z => absurd z (by omega)) (fun _ => rf_mantissa hi (rf_exponent hi (br_f rf_n1 ?_)))
  obtain ⟨g, M, t, m1, m2, m3, m4, m5, m6⟩ := hK i hi
  have hp10 : 2 ^ p ≤ 2 ^ 10 := rf_pm hp2
  rw [m1, m2]
  rcases m6 with m6 | m6
  · refine br_t ?_ (br_t ?_ (nm_r (nI_1 i) hw'))
    · rw [m6.1]; rfl
    · rw [m6.2]; rfl
  · refine rf_eq M 0 (fun y => absurd y (by omega)) (fun _ => ⟨by decide, br_f (rf_odd (by omega) m6) (nm_r (nI_1 i) hw')⟩)
theorem rf_rem (x : Int32) {d : Nat} (h0 : 0 < d) (hd : d < 2 ^ 31) : ∃ a : Nat, a < d ∧ (x &&& 255) - (x &&& 255) / nI d * nI d = nI a := by
  obtain ⟨j, hj, e⟩ := pk_andE x (m := 255) 8 (by decide)
  rw [e]
  exact ⟨j % d, Nat.mod_lt _ h0, pk_rem (by omega) h0 hd⟩
theorem rf_loop {p L kc ks : Nat} {xs : Nat → Int32} (hp : 2 ≤ p) (hp2 : p ≤ 10) (hL : L ≤ 260) :
    ∀ (n k md : Nat) (fl : Int32) (a1 a2 : Nat → Int32), L ≤ k + 1 + n → k ≤ 300 → md < 4 → rf_K p a1 a2 → wL_law_27 (fun r => r = 1) L xs kc ks (n + 1) (nI k) (nI p) (nI md) fl a1 a2 := by
  intro n
  induction n with
  | zero =>
    intro k md fl a1 a2 hn hk hmd hK
    exact pk_le L (k + 1) (fun _ => rfl) (fun z => absurd z (by omega)) rfl (nI_1 k)
  | succ n ih =>
    intro k md fl a1 a2 hn hk hmd hK
    refine pk_le L (k + 1) (fun _ => rfl) (fun z => ?_) rfl (nI_1 k)
    have ik : vp_in (nI k) L := vp_in_nI (by omega) (by omega)
    have ik1 : vp_in (nI k + 1) L := by rw [nI_1]; exact vp_in_nI (by omega) (by omega)
    obtain ⟨a, ha, ea⟩ := rf_rem ((xs (nI k).toNatClampNeg) >>> ((4 : Int32) &&& 31)) (d := 3) (by omega) (by omega)
    obtain ⟨b, hb, eb⟩ := rf_rem ((xs (nI k).toNatClampNeg) >>> ((12 : Int32) &&& 31)) (d := 3) (by omega) (by omega)
    obtain ⟨op, hop, eop⟩ := rf_rem ((xs (nI k).toNatClampNeg) >>> ((22 : Int32) &&& 31)) (d := 6) (by omega) (by omega)
    obtain ⟨md', hmd', emd⟩ := pk_andE ((xs (nI k).toNatClampNeg) >>> ((20 : Int32) &&& 31)) (m := 3) 2 (by decide)
    refine ⟨ik, nm_e ⟨ik, by decide, nm_r ea ⟨ik, by decide, nm_r eb ⟨ik, ?_⟩⟩⟩⟩
    rw [emd]
    have h193 : ∀ (up x3 f2 : Int32) (b1 b2 : Nat → Int32), (up = 0 ∨ up = 1) → rf_K p b1 b2 → wL_law_193 (fun r => r = 1) L xs (wL_law_27 (fun r => r = 1) L xs kc ks (n + 1)) (nI k) up (nI b) (nI a) kc ks (nI p) (nI 3) f2 b1 b2 := by
      intro up x3 f2 b1 b2 hup hKb
      unfold wL_law_193
      refine rf_others hp hp2 ha hb hup hKb (fun fl2 c1 c2 hKc => br_f rf_n1 (rf_normal hp2 hKc (br_f rf_n1 (nm_r (nI_add k 2) ?_))))
      exact ih (k + 2) 3 fl2 c1 c2 (by omega) (by omega) (by omega) hKc
    have h152 : ∀ (md2 : Nat) (x3 f2 : Int32) (b1 b2 : Nat → Int32), rf_K p b1 b2 → wL_law_152 (fun r => r = 1) L xs (wL_law_27 (fun r => r = 1) L xs kc ks (n + 1)) (nI k) x3 (nI a) (nI b) kc ks (nI p) (nI md2) f2 b1 b2 := by
      intro md2 x3 f2 b1 b2 hKb
      unfold wL_law_152
      refine ⟨ik, by decide, ?_⟩
      rw [show ((((xs (nI k).toNatClampNeg) >>> ((22 : Int32) &&& 31)) &&& 255) - (((xs (nI k).toNatClampNeg) >>> ((22 : Int32) &&& 31)) &&& 255) / 6 * 6) = nI op from eop]
      refine rf_modes hp hp2 ha hb hop hKb (fun fl2 c1 c2 hKc => br_f rf_n1 (br_c (fun _ => h193 1 x3 fl2 c1 c2 (Or.inr rfl) hKc) (fun _ => h193 0 x3 fl2 c1 c2 (Or.inl rfl) hKc)))
    obtain ⟨ga, Ha⟩ := hK a (by omega)
    obtain ⟨gb, Hb⟩ := hK b (by omega)
    refine rf_setMode (k := md') (by omega) (br_c (fun _ => br_c (fun _ => ?_) (fun _ => ?_)) (fun _ => ⟨ik1, by decide, ik1, ?_⟩))
    · obtain ⟨F, lo, hi, z', hQ, _, hP⟩ := rf_sub (a := b) (b := a) hp hp2 (by omega) (by omega) Hb Ha
      exact hP a md' fl a1 a2 _ (by omega) (by omega) rfl rfl rfl rfl (fun v fl2 m e _ R => h152 md' _ fl2 _ _ (rf_Ku hK R))
    · obtain ⟨F, lo, hi, z', hQ, hP, _⟩ := rf_mul (a := a) (b := b) hp hp2 (by omega) (by omega) Ha Hb
      exact hP a md' fl a1 a2 _ (by omega) (by omega) rfl rfl rfl rfl (fun v fl2 m e _ R => h152 md' _ fl2 _ _ (rf_Ku hK R))
    · exact rf_load hp hp2 (by omega) (by omega) (h152 md' _ fl a1 a2 hK) (fun F v fl2 m e R => h152 md' _ fl2 _ _ (rf_Ku hK R))
theorem rf_law21 {p L : Nat} {xs : Nat → Int32} (hp : 2 ≤ p) (hp2 : p ≤ 10) (hL : L ≤ 260) : wL_law_21 (fun r => r = 1) L xs (nI p) 1 5 0 0 0 := by
  have hR : rf_R p 0 0 0 := ⟨0, 12, rfl, rfl, by rw [Int.zero_mul], rf_pp p, by show 0 * _ < _; rw [Nat.zero_mul]; exact rf_pp _, Or.inl ⟨rfl, rfl⟩⟩
  have h : wL_law_27 (fun r => r = 1) L xs (1 + 2) (5 + 8) (L + 1) (nI 1) (nI p) (nI 0) 0 (fun _ => 0) (fun _ => 0) := rf_loop hp hp2 hL L 1 0 0 _ _ (by omega) (by omega) (by omega) (fun j _ => ⟨0, hR⟩)
  refine ⟨2, 8, by omega, by omega, by omega, by omega, by omega, by omega, ?_⟩
  exact pk_le 2 p (fun _ => pk_le p 10 (fun _ => ⟨L + 1, h⟩) (fun y => absurd y (by omega))) (fun y => absurd y (by omega))
end
section
theorem i_vc (xs : Nat → Int32) (L : Nat) (hL : L ≤ 260) : wpL_law (fun r => r = 1) L xs := by
  unfold wpL_law
  refine pk_le L 0 (fun _ => rf_law21 (p := 4) (by omega) (by omega) hL) (fun z => ⟨pk_in 0 L z, ?_⟩)
  obtain ⟨j, hj, e⟩ := pk_andE (xs (0 : Int32).toNatClampNeg) (m := 7) 3 (by decide)
  rw [e, show (2 : Int32) + nI j = nI (2 + j) from nI_add 2 j]
  exact rf_law21 (by omega) (by omega) hL
end
