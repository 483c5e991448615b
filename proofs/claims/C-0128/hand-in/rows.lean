section
theorem pk_us {f : Nat → Int32} {k : Nat} {x : Int32} : upd f k x k = x := if_pos rfl
theorem pk_un {f : Nat → Int32} {k j : Nat} {x : Int32} (h : j ≠ k) : upd f k x j = f j := if_neg h
theorem pk_uLs {f : Nat → Int64} {k : Nat} {x : Int64} : vp_updL f k x k = x := if_pos rfl
theorem pk_uLn {f : Nat → Int64} {k j : Nat} {x : Int64} (h : j ≠ k) : vp_updL f k x j = f j := if_neg h
theorem pk_sub {a b : Nat} (h : b ≤ a) : nI a - nI b = nI (a - b) := by
  obtain ⟨c, rfl⟩ : ∃ c, a = c + b := ⟨a - b, by omega⟩
  rw [← nI_add, Int32.add_sub_cancel, Nat.add_sub_cancel]
theorem pk_m1 (n : Nat) : nI (n + 1) + (-1) = nI n := by
  rw [← nI_1, Int32.add_assoc, show (1 : Int32) + (-1) = 0 from rfl, Int32.add_zero]
theorem pk_mul (a b : Nat) : nI a * nI b = nI (a * b) := (Int32.ofNat_mul a b).symm
theorem pk_div {a d : Nat} (ha : a < 2 ^ 31) (h0 : 0 < d) (hd : d < 2 ^ 31) : nI a / nI d = nI (a / d) := by
  apply Int32.toInt_inj.mp
  rw [lg_idiv_nonneg (by rw [nI_toInt ha]; omega) (by rw [nI_toInt hd]; omega), nI_toInt ha, nI_toInt hd, nI_toInt (Nat.lt_of_le_of_lt (Nat.div_le_self a d) ha)]
  first | rfl | exact (Int.natCast_ediv _ _).symm
theorem pk_rem {a d : Nat} (ha : a < 2 ^ 31) (h0 : 0 < d) (hd : d < 2 ^ 31) : nI a - nI a / nI d * nI d = nI (a % d) := by
  rw [pk_div ha h0 hd, pk_mul, pk_sub (Nat.div_mul_le_self a d)]
  exact congrArg nI (by have := Nat.div_add_mod' a d; omega)
theorem pk_sub_toInt {a b : Nat} (ha : a < 2 ^ 30) (hb : b < 2 ^ 30) : (nI a - nI b).toInt = (a : Int) - b := by
  rw [Int32.toInt_sub, nI_toInt (by omega), nI_toInt (by omega)]
  exact Int.bmod_eq_of_le (by omega) (by omega)
theorem pk_sneg {a b : Nat} (hb : b < 2 ^ 30) (h : a < b) : nI a - nI b < 0 := by
  rw [Int32.lt_iff_toInt_lt, pk_sub_toInt (by omega) hb, show (0 : Int32).toInt = 0 from by decide]
  omega
theorem pk_ix (x : Int32) {n : Nat} (hn : n < 2 ^ 31) : x < 0 ∨ nI n ≤ x ∨ ∃ j : Nat, j < n ∧ x = nI j := by
  by_cases h : x < 0
  · exact Or.inl h
  · obtain ⟨j, hj, rfl⟩ := nI_of h
    by_cases h2 : j < n
    · exact Or.inr (Or.inr ⟨j, h2, rfl⟩)
    · exact Or.inr (Or.inl (nI_le (by omega) hj))
theorem pk_le {x y : Int32} {A B : Prop} (a b : Nat) (f : a ≤ b → A) (g : b < a → B) (hx : x = nI a := by rfl) (hy : y = nI b := by rfl) (ha : a < 2 ^ 31 := by omega) (hb : b < 2 ^ 31 := by omega) : (x ≤ y → A) ∧ (¬ x ≤ y → B) := by
  subst hx hy
  rw [nI_leI ha hb]
  exact ⟨f, fun z => g (by omega)⟩
theorem pk_lt {x y : Int32} {A B : Prop} (a b : Nat) (f : a < b → A) (g : b ≤ a → B) (hx : x = nI a := by rfl) (hy : y = nI b := by rfl) (ha : a < 2 ^ 31 := by omega) (hb : b < 2 ^ 31 := by omega) : (x < y → A) ∧ (¬ x < y → B) := by
  subst hx hy
  rw [nI_ltI ha hb]
  exact ⟨f, fun z => g (by omega)⟩
theorem pk_eq {x y : Int32} {A B : Prop} (a b : Nat) (f : a = b → A) (g : a ≠ b → B) (hx : x = nI a := by rfl) (hy : y = nI b := by rfl) (ha : a < 2 ^ 31 := by omega) (hb : b < 2 ^ 31 := by omega) : (x = y → A) ∧ (¬ x = y → B) := by
  subst hx hy
  rw [nI_eq ha hb]
  exact ⟨f, g⟩
theorem pk_in {x : Int32} (n N : Nat) (h : n < N) (hx : x = nI n := by rfl) (hN : N < 2 ^ 31 := by omega) : vp_in x N := by
  subst hx
  exact vp_in_nI h hN
theorem pk_cl {x : Int32} (n : Nat) (hx : x = nI n := by rfl) (h : n < 2 ^ 31 := by omega) : x.toNatClampNeg = n := by
  subst hx
  exact nI_clamp h
theorem pk_tn {n : Nat} (h : n < 2 ^ 32) : (nI n).toBitVec.toNat = n := Nat.mod_eq_of_lt h
theorem pk_and (x : Int32) {m : Int32} (k : Nat) (hm : m.toBitVec.toNat = 2 ^ k - 1) : x &&& m = nI (x.toBitVec.toNat % 2 ^ k) := by
  apply Int32.toBitVec_inj.mp
  apply BitVec.eq_of_toNat_eq
  rw [Int32.toBitVec_and, BitVec.toNat_and, hm, Nat.and_two_pow_sub_one_eq_mod]
  show _ = (BitVec.ofNat 32 _).toNat
  rw [BitVec.toNat_ofNat]
  exact (Nat.mod_eq_of_lt (Nat.lt_of_le_of_lt (Nat.mod_le _ _) x.toBitVec.isLt)).symm
theorem pk_andN {n : Nat} (h : n < 2 ^ 32) {m : Int32} (k : Nat) (hm : m.toBitVec.toNat = 2 ^ k - 1) : nI n &&& m = nI (n % 2 ^ k) := by
  rw [pk_and _ k hm, pk_tn h]
theorem pk_andE (x : Int32) {m : Int32} (k : Nat) (hm : m.toBitVec.toNat = 2 ^ k - 1) : ∃ j : Nat, j < 2 ^ k ∧ x &&& m = nI j := ⟨_, Nat.mod_lt _ (Nat.two_pow_pos k), pk_and x k hm⟩
theorem pk_andIn (x : Int32) {m : Int32} (k : Nat) (hm : m.toBitVec.toNat = 2 ^ k - 1) (hk : k ≤ 30) : vp_in (x &&& m) (2 ^ k) := by
  obtain ⟨j, hj, e⟩ := pk_andE x k hm
  rw [e]
  exact vp_in_nI hj (Nat.lt_of_le_of_lt (Nat.pow_le_pow_right (by decide) hk) (by decide))
theorem pk_shl (a s : Int32) (k : Nat) (hs : (s.toBitVec.smod 32).toNat = k) : (a <<< s).toBitVec.toNat = a.toBitVec.toNat * 2 ^ k % 2 ^ 32 := by
  show (a.toBitVec <<< (s.toBitVec.smod 32).toNat).toNat = _
  rw [hs, BitVec.toNat_shiftLeft, Nat.shiftLeft_eq]
theorem pk_shlN {n : Nat} (s : Int32) (k : Nat) (hs : (s.toBitVec.smod 32).toNat = k) (h : n * 2 ^ k < 2 ^ 32) : nI n <<< s = nI (n * 2 ^ k) := by
  apply Int32.toBitVec_inj.mp
  apply BitVec.eq_of_toNat_eq
  have hn : n < 2 ^ 32 := Nat.lt_of_le_of_lt (Nat.le_mul_of_pos_right n (Nat.two_pow_pos k)) h
  rw [pk_shl _ _ k hs, pk_tn hn, pk_tn h, Nat.mod_eq_of_lt h]
theorem pk_shr (a s : Int32) (k : Nat) (hs : (s.toBitVec.smod 32).toNat = k) : (a >>> s).toInt = a.toInt >>> k := by
  show (a.toBitVec.sshiftRight (s.toBitVec.smod 32).toNat).toInt = _
  rw [hs, BitVec.toInt_sshiftRight]
  rfl
theorem pk_shrN {n : Nat} (h : n < 2 ^ 31) (s : Int32) (k : Nat) (hs : (s.toBitVec.smod 32).toNat = k) : nI n >>> s = nI (n / 2 ^ k) := by
  apply Int32.toInt_inj.mp
  have h2 : n / 2 ^ k ≤ n := Nat.div_le_self _ _
  rw [pk_shr _ _ k hs, nI_toInt h, nI_toInt (by omega), Int.shiftRight_eq_div_pow]
  rfl
theorem ek_if {c d A B : Prop} (e : c ↔ d) (f : d → A) (g : ¬ d → B) : (c → A) ∧ (¬ c → B) :=
  ⟨fun h => f (e.mp h), fun h => g (fun z => h (e.mpr z))⟩
theorem ek_v {α : Sort _} {P : α → Prop} {a b : α} (e : a = b) (h : P b) : P a := e ▸ h
/-! ===== Int32 by its bits: bt x i ===== -/
def bt (x : Int32) (i : Nat) : Bool := x.toBitVec.getLsbD i
theorem b_ext {x y : Int32} (h : ∀ i, i < 32 → bt x i = bt y i) : x = y := Int32.toBitVec_inj.mp (BitVec.eq_of_getLsbD_eq (fun i hi => h i hi))
theorem b_or (x y : Int32) (i : Nat) : bt (x ||| y) i = (bt x i || bt y i) := by unfold bt; rw [Int32.toBitVec_or, BitVec.getLsbD_or]
theorem b_and (x y : Int32) (i : Nat) : bt (x &&& y) i = (bt x i && bt y i) := by unfold bt; rw [Int32.toBitVec_and, BitVec.getLsbD_and]
theorem b_xor (x y : Int32) (i : Nat) : bt (x ^^^ y) i = (bt x i ^^ bt y i) := by unfold bt; rw [Int32.toBitVec_xor, BitVec.getLsbD_xor]
theorem b_big {x : Int32} {i : Nat} (h : 32 ≤ i) : bt x i = false := BitVec.getLsbD_of_ge _ _ h
theorem b_255 (i : Nat) : bt 255 i = decide (i < 8) := by
  rcases Nat.lt_or_ge i 32 with h | h
  · exact (by decide +kernel : ∀ i, i < 32 → bt 255 i = decide (i < 8)) i h
  · rw [b_big h, decide_eq_false (by omega)]
theorem b_65535 (i : Nat) : bt 65535 i = decide (i < 16) := by
  rcases Nat.lt_or_ge i 32 with h | h
  · exact (by decide +kernel : ∀ i, i < 32 → bt 65535 i = decide (i < 16)) i h
  · rw [b_big h, decide_eq_false (by omega)]
theorem b_m1 : ∀ i, i < 32 → bt (-1) i = true := by decide +kernel
theorem b_0 (i : Nat) : bt 0 i = false := BitVec.getLsbD_zero
theorem s_l : ∀ n, n < 32 → ((nI n &&& 31).toBitVec.smod 32).toNat = n := by decide +kernel
theorem s_u : ∀ n, n < 32 → (((nI n).toUInt32 &&& Int32.toUInt32 31).toBitVec % 32).toNat = n := by decide +kernel
theorem b_shl (n : Nat) (hn : n < 32) (x : Int32) {i : Nat} (hi : i < 32) : bt (x <<< (nI n &&& 31)) i = (decide (n ≤ i) && bt x (i - n)) := by
  unfold bt
  rw [Int32.toBitVec_shiftLeft]
  show (x.toBitVec <<< ((nI n &&& 31).toBitVec.smod 32).toNat).getLsbD i = _
  rw [s_l n hn, BitVec.getLsbD_shiftLeft]
  rcases Nat.lt_or_ge i n with h | h
  · simp [h, Nat.not_le.mpr h]
  · simp [hi, h, Nat.not_lt.mpr h]
theorem b_ushr (n : Nat) (hn : n < 32) (x : Int32) (i : Nat) : bt ((x.toUInt32 >>> ((nI n).toUInt32 &&& Int32.toUInt32 31)).toInt32) i = bt x (n + i) := by
  show (x.toUInt32 >>> ((nI n).toUInt32 &&& Int32.toUInt32 31)).toBitVec.getLsbD i = x.toUInt32.toBitVec.getLsbD (n + i)
  rw [UInt32.toBitVec_shiftRight]
  show (x.toUInt32.toBitVec >>> (((nI n).toUInt32 &&& Int32.toUInt32 31).toBitVec % 32).toNat).getLsbD i = _
  rw [s_u n hn, BitVec.getLsbD_ushiftRight]
theorem b_sshr (n : Nat) (hn : n < 32) (x : Int32) {i : Nat} (hi : i < 32) : bt (x >>> (nI n &&& 31)) i = if n + i < 32 then bt x (n + i) else bt x 31 := by
  unfold bt
  rw [Int32.toBitVec_shiftRight]
  show (x.toBitVec.sshiftRight ((nI n &&& 31).toBitVec.smod 32).toNat).getLsbD i = _
  rw [s_l n hn, BitVec.getLsbD_sshiftRight, BitVec.msb_eq_getLsbD_last]
  simp [hi]
theorem b_shl8 (x : Int32) {i : Nat} (hi : i < 32) : bt (x <<< ((8 : Int32) &&& 31)) i = (decide (8 ≤ i) && bt x (i - 8)) := b_shl 8 (by omega) x hi
theorem b_shl16 (x : Int32) {i : Nat} (hi : i < 32) : bt (x <<< ((16 : Int32) &&& 31)) i = (decide (16 ≤ i) && bt x (i - 16)) := b_shl 16 (by omega) x hi
theorem b_shl24 (x : Int32) {i : Nat} (hi : i < 32) : bt (x <<< ((24 : Int32) &&& 31)) i = (decide (24 ≤ i) && bt x (i - 24)) := b_shl 24 (by omega) x hi
theorem b_sshr8 (x : Int32) {i : Nat} (hi : i < 32) : bt (x >>> ((8 : Int32) &&& 31)) i = if 8 + i < 32 then bt x (8 + i) else bt x 31 := b_sshr 8 (by omega) x hi
end
section
/-! ===== bits, copies, sums, literals ===== -/
theorem ba_neg {n : Nat} (h : n < 2 ^ 31) {x : Int32} (hx : x.toInt < 0) : ¬ nI n = x := by
  intro e
  have h1 := nI_toInt h
  rw [e] at h1
  omega
theorem ba_n1 {n : Nat} (h : n < 2 ^ 31) : ¬ nI n = -1 := ba_neg h (by decide)
theorem ba_n3 {n : Nat} (h : n < 2 ^ 31) : ¬ nI n = -3 := ba_neg h (by decide)
theorem ba_n4 {n : Nat} (h : n < 2 ^ 31) : ¬ nI n = -4 := ba_neg h (by decide)
theorem ba_m1 : (-1 : Int32) < 0 := by decide
theorem ba_m4 : (-4 : Int32) < 0 := by decide
theorem ba_b1 : ∀ i, i < 32 → bt 1 i = decide (i = 0) := by decide +kernel
theorem ba_sh0 (x : Int32) {k : Nat} (hk : k < 32) : bt (x >>> (nI k &&& 31)) 0 = bt x k := by
  rw [b_sshr k hk x (by omega), if_pos (by omega), Nat.add_zero]
theorem ba_has (x : Int32) {k : Nat} (hk : k < 32) : ((x >>> (nI k &&& 31)) &&& 1) = 1 ↔ bt x k = true := by
  constructor
  · intro e
    have h := b_and (x >>> (nI k &&& 31)) 1 0
    rw [e, ba_sh0 x hk, ba_b1 0 (by omega)] at h
    simpa using h
  · intro e
    apply b_ext
    intro i hi
    rw [b_and, ba_b1 i hi]
    by_cases z : i = 0
    · subst z
      rw [ba_sh0 x hk, e]
      rfl
    · simp [z]
theorem ba_hasN (x : Int32) {k : Nat} (hk : k < 32) : ((x >>> (nI k &&& 31)) &&& 1) = nI (if bt x k = true then 1 else 0) := by
  by_cases h : bt x k = true
  · rw [if_pos h]
    exact (ba_has x hk).mpr h
  · rw [if_neg h]
    apply b_ext
    intro i hi
    rw [b_and, ba_b1 i hi]
    by_cases z : i = 0
    · subst z
      rw [ba_sh0 x hk]
      have : bt x k = false := by simpa using h
      rw [this]
      exact (b_0 0).symm
    · simp only [z, decide_false, Bool.and_false]
      exact (b_0 i).symm
theorem ba_hasC {f : Nat → Int32} {a k : Nat} (ha : a < 2 ^ 31) (hk : k < 32) : (((f (nI a).toNatClampNeg) >>> (nI k &&& 31)) &&& 1) = 1 ↔ bt (f a) k = true := by
  rw [nI_clamp ha]
  exact ba_has _ hk
theorem ba_shl {k i : Nat} (hk : k < 32) (hi : i < 32) : bt ((1 : Int32) <<< (nI k &&& 31)) i = decide (i = k) := by
  rw [b_shl k hk 1 hi, ba_b1 (i - k) (by omega)]
  by_cases h : i = k
  · subst h
    simp
  · by_cases h2 : k ≤ i
    · have : ¬ (i - k = 0) := by omega
      simp [h, this]
    · simp [h, h2]
/-- set inclusion -/
def zs_B (x a : Int32) : Prop := ∀ i, i < 32 → bt x i = true → bt a i = true
theorem ba_z (x : Int32) : x = 0 ↔ ∀ i, i < 32 → bt x i = false := by
  constructor
  · intro h i _
    rw [h]
    exact b_0 i
  · intro h
    apply b_ext
    intro i hi
    rw [h i hi, b_0]
theorem ba_sub1 (x a : Int32) : (x &&& (a ^^^ (-1))) = 0 ↔ zs_B x a := by
  rw [ba_z]
  constructor
  · intro h i hi hx
    have := h i hi
    rw [b_and, b_xor, b_m1 i hi, hx] at this
    simpa using this
  · intro h i hi
    rw [b_and, b_xor, b_m1 i hi]
    cases hx : bt x i
    · rfl
    · rw [h i hi hx]
      rfl
theorem ba_sub2 (x a : Int32) : (a &&& x) = x ↔ zs_B x a := by
  constructor
  · intro h i hi hx
    have := b_and a x i
    rw [h, hx] at this
    simpa using this.symm
  · intro h
    apply b_ext
    intro i hi
    rw [b_and]
    cases hx : bt x i
    · simp
    · rw [h i hi hx]
      rfl
theorem ba_sub1C {f : Nat → Int32} {t : Nat} (x : Int32) (ht : t < 2 ^ 31) : (x &&& ((f (nI t).toNatClampNeg) ^^^ (-1))) = 0 ↔ zs_B x (f t) := by
  rw [nI_clamp ht]
  exact ba_sub1 _ _
theorem ba_sub2C {f : Nat → Int32} {t : Nat} (x : Int32) (ht : t < 2 ^ 31) : ((f (nI t).toNatClampNeg) &&& x) = x ↔ zs_B x (f t) := by
  rw [nI_clamp ht]
  exact ba_sub2 _ _
/-- number of bits below k -/
def ba_cn (x : Int32) : Nat → Nat
  | 0 => 0
  | k + 1 => ba_cn x k + (if bt x k = true then 1 else 0)
theorem ba_cn_le (x : Int32) : ∀ k, ba_cn x k ≤ k := by
  intro k
  induction k with
  | zero => exact Nat.le_refl _
  | succ k ih =>
    show ba_cn x k + (if bt x k = true then 1 else 0) ≤ k + 1
    split <;> omega
theorem ba_cn_ext (x : Int32) (m : Nat) (h : ∀ i, bt x i = true → i < m) : ∀ d, ba_cn x (m + d) = ba_cn x m := by
  intro d
  induction d with
  | zero => rfl
  | succ d ih =>
    show ba_cn x (m + d) + (if bt x (m + d) = true then 1 else 0) = _
    rw [ih, if_neg (fun z => absurd (h _ z) (by omega))]
    rfl
theorem ba_add_bit (x : Int32) {k : Nat} (hk : k < 32) : nI (ba_cn x k) + ((x >>> (nI k &&& 31)) &&& 1) = nI (ba_cn x (k + 1)) := by
  rw [ba_hasN x hk, nI_add]
  rfl
/-- the first k places from f, the others from g -/
def zc_p (k : Nat) (f g : Nat → Int32) : Nat → Int32 := fun i => if i < k then f i else g i
theorem cp_lt {k i : Nat} {f g : Nat → Int32} (h : i < k) : zc_p k f g i = f i := if_pos h
theorem cp_ge {k i : Nat} {f g : Nat → Int32} (h : k ≤ i) : zc_p k f g i = g i := if_neg (by omega)
theorem cp_0 (f g : Nat → Int32) : zc_p 0 f g = g := by
  funext i
  exact cp_ge (Nat.zero_le _)
theorem cp_s (k : Nat) (f g : Nat → Int32) : upd (zc_p k f g) k (f k) = zc_p (k + 1) f g := by
  funext i
  by_cases h : i = k
  · subst h
    rw [pk_us, cp_lt (Nat.lt_succ_self _)]
  · rw [pk_un h]
    by_cases h2 : i < k
    · rw [cp_lt h2, cp_lt (by omega)]
    · rw [cp_ge (by omega), cp_ge (by omega)]
theorem cp_sv {k : Nat} {f g : Nat → Int32} {v : Int32} (h : v = f k) : upd (zc_p k f g) k v = zc_p (k + 1) f g := by
  rw [h]
  exact cp_s k f g
theorem cp_skip {k : Nat} {f g : Nat → Int32} (h : g k = f k) : zc_p k f g = zc_p (k + 1) f g := by
  funext i
  by_cases e : i = k
  · subst e
    rw [cp_ge (Nat.le_refl _), cp_lt (Nat.lt_succ_self _), h]
  · by_cases h2 : i < k
    · rw [cp_lt h2, cp_lt (by omega)]
    · rw [cp_ge (by omega), cp_ge (by omega)]
theorem cp_congr {k : Nat} {f f' g : Nat → Int32} (h : ∀ i, i < k → f i = f' i) : zc_p k f g = zc_p k f' g := by
  funext i
  by_cases h2 : i < k
  · rw [cp_lt h2, cp_lt h2, h i h2]
  · rw [cp_ge (by omega), cp_ge (by omega)]
theorem cp_back {k : Nat} {f h g : Nat → Int32} (e : ∀ i, i < k → f i = g i) : zc_p k f (zc_p k h g) = g := by
  funext i
  by_cases h2 : i < k
  · rw [cp_lt h2, e i h2]
  · rw [cp_ge (by omega), cp_ge (by omega)]
theorem ba_uu (f : Nat → Int32) (k : Nat) (x : Int32) : upd (upd f k x) k (f k) = f := by
  funext i
  by_cases h : i = k
  · subst h
    rw [pk_us]
  · rw [pk_un h, pk_un h]
/-- sums over 0 .. n - 1 -/
def zs_m (f : Nat → Nat) : Nat → Nat
  | 0 => 0
  | n + 1 => zs_m f n + f n
theorem sm_congr {f g : Nat → Nat} : ∀ n, (∀ i, i < n → f i = g i) → zs_m f n = zs_m g n := by
  intro n
  induction n with
  | zero => intro _; rfl
  | succ n ih =>
    intro h
    show zs_m f n + f n = zs_m g n + g n
    rw [ih (fun i hi => h i (by omega)), h n (by omega)]
theorem sm_bump {f g : Nat → Nat} {k d : Nat} : ∀ n, k < n → (∀ i, i < n → i ≠ k → g i = f i) → g k = f k + d → zs_m g n = zs_m f n + d := by
  intro n
  induction n with
  | zero => intro h; exact absurd h (by omega)
  | succ n ih =>
    intro h h1 h2
    show zs_m g n + g n = zs_m f n + f n + d
    by_cases e : k = n
    · subst e
      rw [h2, sm_congr k (fun i hi => h1 i (by omega) (by omega))]
      omega
    · rw [ih (by omega) (fun i hi => h1 i (by omega)) h2, h1 n (by omega) (fun z => e z.symm)]
      omega
theorem sm_le {f g : Nat → Nat} : ∀ n, (∀ i, i < n → f i ≤ g i) → zs_m f n ≤ zs_m g n := by
  intro n
  induction n with
  | zero => intro _; exact Nat.le_refl _
  | succ n ih =>
    intro h
    show zs_m f n + f n ≤ zs_m g n + g n
    have h1 := ih (fun i hi => h i (by omega))
    have h2 := h n (by omega)
    omega
theorem sm_lt {f g : Nat → Nat} {k : Nat} : ∀ n, k < n → (∀ i, i < n → f i ≤ g i) → f k < g k → zs_m f n < zs_m g n := by
  intro n
  induction n with
  | zero => intro h; exact absurd h (by omega)
  | succ n ih =>
    intro h h1 h2
    show zs_m f n + f n < zs_m g n + g n
    have h3 := h1 n (by omega)
    by_cases e : k = n
    · subst e
      have h4 := sm_le k (fun i hi => h1 i (by omega))
      omega
    · have h4 := ih (by omega) (fun i hi => h1 i (by omega)) h2
      omega
theorem sm_bd {f : Nat → Nat} {m : Nat} : ∀ n, (∀ i, i < n → f i ≤ m) → zs_m f n ≤ m * n := by
  intro n
  induction n with
  | zero => intro _; exact Nat.le_refl _
  | succ n ih =>
    intro h
    show zs_m f n + f n ≤ m * (n + 1)
    have h1 := ih (fun i hi => h i (by omega))
    have h2 := h n (by omega)
    rw [Nat.mul_succ]
    omega
theorem ba_i8 (a b : Nat) : (nI a * 8) + nI b = nI (a * 8 + b) := by
  show (nI a * nI 8) + nI b = _
  rw [pk_mul, nI_add]
theorem ba_i3 (a f : Nat) : (32 + (nI a * 3)) + nI f = nI (32 + a * 3 + f) := by
  show (nI 32 + (nI a * nI 3)) + nI f = _
  rw [pk_mul, nI_add, nI_add]
theorem ba_16 (a : Nat) : 16 + nI a = nI (16 + a) := by
  show nI 16 + nI a = _
  rw [nI_add]
theorem ba_y3 (a f : Nat) : (3 * nI a) + nI f = nI (3 * a + f) := by
  show (nI 3 * nI a) + nI f = _
  rw [pk_mul, nI_add]
theorem ba_3 (a : Nat) : 3 * nI a = nI (3 * a) := by
  show nI 3 * nI a = _
  rw [pk_mul]
theorem ba_p (a : Nat) (h : 0 < a) : nI a - 1 = nI (a - 1) := by
  obtain ⟨b, rfl⟩ : ∃ b, a = b + 1 := ⟨a - 1, by omega⟩
  exact nI_pred b
theorem ba_ng {x : Int32} (h : ¬ x < 0) : 0 ≤ x := Int32.not_lt.mp h
theorem ba_gn {x : Int32} (h : x < 0) : ¬ 0 ≤ x := Int32.not_le.mpr h
theorem ba_cl {n : Nat} (h : n < 2 ^ 31) : (nI n).toNatClampNeg = n := nI_clamp h
end
section
/-! ===== the hierarchy: pure notions ===== -/
/-- t is the greatest of the set s -/
def zg_R (h : Nat → Int32) (s : Int32) (t : Nat) : Prop := t < 8 ∧ bt s t = true ∧ zs_B s (h t)
theorem zg_congr {h h' : Nat → Int32} {s : Int32} {t : Nat} (e : ∀ i, i < 8 → h i = h' i) (g : zg_R h s t) : zg_R h' s t := ⟨g.1, g.2.1, by rw [← e t g.1]; exact g.2.2⟩
def zf_q (h : Nat → Int32) (a b : Nat) : Prop := h a &&& h b = 0 ∨ ∃ t, zg_R h (h a &&& h b) t
def zf_p (h : Nat → Int32) (a b : Nat) : Prop := (a ≠ b → ¬ (bt (h a) b = true ∧ bt (h b) a = true)) ∧ zf_q h a b
def zf_T (h : Nat → Int32) : Prop := ∀ a, a < 8 → ∀ b, b < 8 → zf_p h a b
theorem zf_congr {h h' : Nat → Int32} (e : ∀ i, i < 8 → h i = h' i) (g : zf_T h) : zf_T h' := by
  intro a ha b hb
  have g1 := g a ha b hb
  unfold zf_p zf_q at g1
  rw [e a ha, e b hb] at g1
  refine ⟨g1.1, ?_⟩
  rcases g1.2 with z | ⟨t, z⟩
  · exact Or.inl z
  · exact Or.inr ⟨t, zg_congr e z⟩
/-- what greatest answers -/
def zm_T (h : Nat → Int32) (s v : Int32) : Prop := (s = 0 ∧ v = -4) ∨ (s ≠ 0 ∧ ∃ t, zg_R h s t ∧ v = nI t) ∨ (s ≠ 0 ∧ (∀ t, ¬ zg_R h s t) ∧ v = -3)
theorem zm_congr {h h' : Nat → Int32} {s v : Int32} (e : ∀ i, i < 8 → h i = h' i) (g : zm_T h s v) : zm_T h' s v := by
  rcases g with z | ⟨z, t, g, v⟩ | ⟨z, g, v⟩
  · exact Or.inl z
  · exact Or.inr (Or.inl ⟨z, t, zg_congr e g, v⟩)
  · exact Or.inr (Or.inr ⟨z, fun t y => g t (zg_congr (fun i hi => (e i hi).symm) y), v⟩)
section
variable {fc fl fm fo : Int32} {bl tr mt c lc lo ml mn oA oB im : Nat → Int32}
theorem xg_24 {post : Int32 → Prop} {s : Int32} (h1 : ∀ t, zg_R tr s t → post (nI t)) (h3 : (∀ t, ¬ zg_R tr s t) → post (-3)) : ∀ d j, j + d = 8 → (∀ t, t < j → ¬ zg_R tr s t) → wX_greatest_24 post s fc fl fm fo bl tr mt c lc lo ml mn oA oB im (d + 1) (nI j) := by
  intro d
  induction d with
  | zero =>
    intro j hj hn
    refine pk_le 8 j (fun _ => h3 (fun t g => ?_)) (fun z => absurd z (by omega))
    have := g.1
    exact hn t (by omega) g
  | succ d ih =>
    intro j hj hn
    have next : ¬ zg_R tr s j → wX_greatest_24 post s fc fl fm fo bl tr mt c lc lo ml mn oA oB im (d + 1) (nI (j + 1)) := fun z => ih (j + 1) (by omega) (fun t ht => by
      by_cases e : t = j
      · rw [e]; exact z
      · exact hn t (by omega))
    refine pk_le 8 j (fun z => absurd z (by omega)) (fun _ => ?_)
    refine ek_if (ba_has s (by omega)) (fun hb => ⟨vp_in_nI (by omega) (by omega), ?_⟩) (fun hb => nm_r (nI_1 j) (next (fun g => hb g.2.1)))
    exact ek_if (ba_sub1C s (by omega)) (fun hs => h1 j ⟨by omega, hb, hs⟩) (fun hs => nm_r (nI_1 j) (next (fun g => hs g.2.2)))
theorem xg_all {post : Int32 → Prop} {a b : Nat} (ha : a < 8) (hb : b < 8) (h : ∀ v, zm_T tr (tr a &&& tr b) v → post v) : wpX_greatest post (fc, fl, fm, fo, bl, tr, mt, c, lc, lo, ml, mn, oA, oB, im) (nI a) (nI b) := by
  refine ⟨vp_in_nI ha (by omega), vp_in_nI hb (by omega), nm_r (e' := tr a &&& tr b) (by rw [nI_clamp (by omega), nI_clamp (by omega)]) ?_⟩
  refine br_c (fun z => h _ (Or.inl ⟨z, rfl⟩)) (fun z => ⟨9, ?_⟩)
  exact xg_24 (fun t g => h _ (Or.inr (Or.inl ⟨z, t, g, rfl⟩))) (fun g => h _ (Or.inr (Or.inr ⟨z, g, rfl⟩))) 8 0 rfl (fun t ht => absurd ht (by omega))
theorem xf_61 {post J2 J10 : Int32 → Prop} {a b : Nat} (ha : a < 8) (hb : b < 8) (h0 : ¬ zf_q tr a b → post 0) (h1 : zf_q tr a b → J10 (nI (b + 1))) : wX_fit_61 post J2 J10 (nI a) (nI b) fc fl fm fo bl tr mt c lc lo ml mn oA oB im := by
  refine xg_all ha hb (fun v hv => ?_)
  rcases hv with ⟨z, rfl⟩ | ⟨z, t, g, rfl⟩ | ⟨z, g, rfl⟩
  · exact br_f (by decide) (nm_r (nI_1 b) (h1 (Or.inl z)))
  · exact br_f (ba_n3 (by have := g.1; omega)) (nm_r (nI_1 b) (h1 (Or.inr ⟨t, g⟩)))
  · refine br_t rfl (h0 (fun y => ?_))
    rcases y with y | ⟨t, y⟩
    · exact z y
    · exact g t y
theorem xf_10 {post J2 : Int32 → Prop} {a : Nat} (ha : a < 8) (h0 : ¬ zf_T tr → post 0) (hJ : (∀ b, b < 8 → zf_p tr a b) → J2 (nI (a + 1))) : ∀ d j, j + d = 8 → (∀ b, b < j → zf_p tr a b) → wX_fit_10 post J2 (nI a) fc fl fm fo bl tr mt c lc lo ml mn oA oB im (d + 1) (nI j) := by
  intro d
  induction d with
  | zero =>
    intro j hj hp
    exact pk_le 8 j (fun _ => nm_r (nI_1 a) (hJ (fun b hb => hp b (by omega)))) (fun z => absurd z (by omega))
  | succ d ih =>
    intro j hj hp
    have hj8 : j < 8 := by omega
    have next : zf_p tr a j → wX_fit_10 post J2 (nI a) fc fl fm fo bl tr mt c lc lo ml mn oA oB im (d + 1) (nI (j + 1)) := fun z => ih (j + 1) (by omega) (fun t ht => by
      by_cases e : t = j
      · rw [e]; exact z
      · exact hp t (by omega))
    have k0 : ¬ zf_p tr a j → post 0 := fun z => h0 (fun y => z (y a ha j hj8))
    have k61 : (a ≠ j → ¬ (bt (tr a) j = true ∧ bt (tr j) a = true)) → wX_fit_61 post J2 (wX_fit_10 post J2 (nI a) fc fl fm fo bl tr mt c lc lo ml mn oA oB im (d + 1)) (nI a) (nI j) fc fl fm fo bl tr mt c lc lo ml mn oA oB im := fun z => xf_61 ha hj8 (fun y => k0 (fun w => y w.2)) (fun y => next ⟨z, y⟩)
    have k48 : (¬ (bt (tr a) j = true ∧ bt (tr j) a = true)) → wX_fit_48 post J2 (wX_fit_10 post J2 (nI a) fc fl fm fo bl tr mt c lc lo ml mn oA oB im (d + 1)) (nI a) (nI j) fc fl fm fo bl tr mt c lc lo ml mn oA oB im := fun z => pk_eq a j (fun _ => k61 (fun _ => z)) (fun _ => br_t rfl (k61 (fun _ => z)))
    refine pk_le 8 j (fun z => absurd z (by omega)) (fun _ => ⟨vp_in_nI ha (by omega), ?_⟩)
    refine ek_if (ba_hasC (by omega) (by omega)) (fun hb => ⟨vp_in_nI hj8 (by omega), ?_⟩) (fun hb => k48 (fun y => hb y.1))
    refine ek_if (ba_hasC (by omega) (by omega)) (fun hb2 => ?_) (fun hb2 => k48 (fun y => hb2 y.2))
    exact pk_eq a j (fun e => k61 (fun z => absurd e z)) (fun e => br_f (by decide) (k0 (fun y => y.1 e ⟨hb, hb2⟩)))
theorem xf_2 {post : Int32 → Prop} (h0 : ¬ zf_T tr → post 0) (h1 : zf_T tr → post 1) : ∀ d j, j + d = 8 → (∀ a, a < j → ∀ b, b < 8 → zf_p tr a b) → wX_fit_2 post fc fl fm fo bl tr mt c lc lo ml mn oA oB im (d + 1) (nI j) := by
  intro d
  induction d with
  | zero =>
    intro j hj hp
    exact pk_le 8 j (fun _ => h1 (fun a ha => hp a (by omega))) (fun z => absurd z (by omega))
  | succ d ih =>
    intro j hj hp
    refine pk_le 8 j (fun z => absurd z (by omega)) (fun _ => ⟨9, ?_⟩)
    refine xf_10 (by omega) h0 (fun z => ih (j + 1) (by omega) (fun a ha => ?_)) 8 0 rfl (fun b hb => absurd hb (by omega))
    by_cases e : a = j
    · rw [e]; exact z
    · exact hp a (by omega)
theorem xf_all {post : Int32 → Prop} (h0 : ¬ zf_T tr → post 0) (h1 : zf_T tr → post 1) : wpX_fit post (fc, fl, fm, fo, bl, tr, mt, c, lc, lo, ml, mn, oA, oB, im) := ⟨9, xf_2 h0 h1 8 0 rfl (fun a ha => absurd ha (by omega))⟩
/-- the table of meets -/
def zt_M (h mt : Nat → Int32) (a : Nat) : Prop := ∀ b, b < 8 → zm_T h (h a &&& h b) (mt (a * 8 + b))
theorem xm_36 {post : SX → Prop} {J28 : Int32 → (Nat → Int32) → (Nat → Int32) → (Nat → Int32) → (Nat → Int32) → (Nat → Int32) → (Nat → Int32) → (Nat → Int32) → (Nat → Int32) → (Nat → Int32) → (Nat → Int32) → (Nat → Int32) → Prop} {a : Nat} (ha : a < 8) (hJ : ∀ mt, (∀ a', a' < a + 1 → zt_M tr mt a') → J28 (nI (a + 1)) bl tr mt c lc lo ml mn oA oB im) : ∀ d j mt, j + d = 8 → (∀ a', a' < a → zt_M tr mt a') → (∀ b, b < j → zm_T tr (tr a &&& tr b) (mt (a * 8 + b))) → wX_fillMeets_36 post J28 (nI a) fc fl fm fo (d + 1) (nI j) bl tr mt c lc lo ml mn oA oB im := by
  intro d
  induction d with
  | zero =>
    intro j mt hj ho hp
    refine pk_le 8 j (fun _ => nm_r (nI_1 a) (hJ mt (fun a' ha' => ?_))) (fun z => absurd z (by omega))
    by_cases e : a' = a
    · subst e
      exact fun b hb => hp b (by omega)
    · exact ho a' (by omega)
  | succ d ih =>
    intro j mt hj ho hp
    refine pk_le 8 j (fun z => absurd z (by omega)) (fun _ => ?_)
    refine xg_all ha (by omega) (fun v hv => ⟨pk_in (a * 8 + j) 64 (by omega) (ba_i8 a j), nm_r (e' := upd mt (a * 8 + j) v) (by rw [ba_i8, nI_clamp (by omega)]) (nm_r (nI_1 j) ?_)⟩)
    refine ih (j + 1) _ (by omega) (fun a' ha' b hb => ?_) (fun b hb => ?_)
    · rw [pk_un (by omega)]
      exact ho a' ha' b hb
    · by_cases e : b = j
      · subst e
        rw [pk_us]
        exact hv
      · rw [pk_un (by omega)]
        exact hp b (by omega)
theorem xm_28 {post : SX → Prop} (hK : ∀ mt, (∀ a, a < 8 → zt_M tr mt a) → post (fc, fl, fm, fo, bl, tr, mt, c, lc, lo, ml, mn, oA, oB, im)) : ∀ d j mt, j + d = 8 → (∀ a, a < j → zt_M tr mt a) → wX_fillMeets_28 post fc fl fm fo (d + 1) (nI j) bl tr mt c lc lo ml mn oA oB im := by
  intro d
  induction d with
  | zero =>
    intro j mt hj hp
    exact pk_le 8 j (fun _ => hK mt (fun a ha => hp a (by omega))) (fun z => absurd z (by omega))
  | succ d ih =>
    intro j mt hj hp
    refine pk_le 8 j (fun z => absurd z (by omega)) (fun _ => ⟨9, ?_⟩)
    exact xm_36 (by omega) (fun mt' h => ih (j + 1) mt' (by omega) h) 8 0 mt rfl hp (fun b hb => absurd hb (by omega))
theorem xm_2 {post : SX → Prop} (hK : ∀ tr mt, (∀ i, i < 8 → tr i = bl i) → (∀ a, a < 8 → zt_M tr mt a) → post (fc, fl, fm, fo, bl, tr, mt, c, lc, lo, ml, mn, oA, oB, im)) : ∀ d j tr, j + d = 8 → (∀ i, i < j → tr i = bl i) → wX_fillMeets_2 post fc fl fm fo (d + 1) (nI j) bl tr mt c lc lo ml mn oA oB im := by
  intro d
  induction d with
  | zero =>
    intro j tr hj hp
    exact pk_le 8 j (fun _ => ⟨9, xm_28 (fun mt h => hK tr mt (fun i hi => hp i (by omega)) h) 8 0 mt rfl (fun a ha => absurd ha (by omega))⟩) (fun z => absurd z (by omega))
  | succ d ih =>
    intro j tr hj hp
    have hin : vp_in (nI j) 8 := vp_in_nI (by omega) (by omega)
    refine pk_le 8 j (fun z => absurd z (by omega)) (fun _ => ⟨hin, hin, nm_r (e' := upd tr j (bl j)) (by rw [nI_clamp (by omega)]) (nm_r (nI_1 j) ?_)⟩)
    refine ih (j + 1) _ (by omega) (fun i hi => ?_)
    by_cases e : i = j
    · subst e
      exact pk_us
    · rw [pk_un e]
      exact hp i (by omega)
theorem xm_all {post : SX → Prop} (hK : ∀ tr mt, (∀ a, a < 8 → zt_M bl mt a) → post (fc, fl, fm, fo, bl, tr, mt, c, lc, lo, ml, mn, oA, oB, im)) : wpX_fillMeets post (fc, fl, fm, fo, bl, tr, mt, c, lc, lo, ml, mn, oA, oB, im) := by
  refine ⟨9, xm_2 (fun tr mt e h => hK tr mt (fun a ha b hb => ?_)) 8 0 tr rfl (fun i hi => absurd hi (by omega))⟩
  have h1 := zm_congr e (h a ha b hb)
  rw [e a ha, e b hb] at h1
  exact h1
theorem xs_4 {post : Int32 → Prop} {s : Int32} (h : post (nI (ba_cn s 8))) : ∀ d j, j + d = 8 → wX_sizeOf_4 post s fc fl fm fo bl tr mt c lc lo ml mn oA oB im (d + 1) (nI (ba_cn s j)) (nI j) := by
  intro d
  induction d with
  | zero =>
    intro j hj
    obtain rfl : j = 8 := by omega
    exact pk_le 8 8 (fun _ => h) (fun z => absurd z (by omega))
  | succ d ih =>
    intro j hj
    exact pk_le 8 j (fun z => absurd z (by omega)) (fun _ => nm_r (ba_add_bit s (by omega)) (nm_r (nI_1 j) (ih (j + 1) (by omega))))
theorem xs_all {post : Int32 → Prop} {s : Int32} (h : post (nI (ba_cn s 8))) : wpX_sizeOf post (fc, fl, fm, fo, bl, tr, mt, c, lc, lo, ml, mn, oA, oB, im) s := ⟨9, xs_4 h 8 0 rfl⟩
theorem xb_0 {post : Int32 → Prop} {j : Nat} (hj : j < 8) (h : post 0) : wpX_badType post (fc, fl, fm, fo, bl, tr, mt, c, lc, lo, ml, mn, oA, oB, im) (nI j) :=
  br_f (nI_pos (by omega)) (br_t (nI_lt (b := 8) hj (by omega)) h)
theorem xb_1 {post : Int32 → Prop} {v : Int32} (hv : v < 0 ∨ nI 8 ≤ v) (h : post 1) : wpX_badType post (fc, fl, fm, fo, bl, tr, mt, c, lc, lo, ml, mn, oA, oB, im) v := by
  rcases hv with z | z
  · exact br_t z h
  · refine br_c (fun _ => h) (fun _ => br_f (Int32.not_lt.mpr z) h)
/-- what lies under t when a is put under b -/
def zp_u (h : Nat → Int32) (a b t : Nat) : Int32 := if bt (h t) b = true then h t ||| h a else h t
theorem xu_102 {post : Int32 → SX → Prop} {b : Nat} (hb : b < 8) {bl0 : Nat → Int32} (hK : ∀ bl tr' mt, bl = zc_p 8 tr bl0 → (∀ a, a < 8 → zt_M bl mt a) → post (nI (ba_cn (bl b) 8)) (fc, fl, fm, fo, bl, tr', mt, c, lc, lo, ml, mn, oA, oB, im)) : ∀ d j, j + d = 8 → wX_under_102 post (nI b) fc fl fm fo (d + 1) (nI j) (zc_p j tr bl0) tr mt c lc lo ml mn oA oB im := by
  intro d
  induction d with
  | zero =>
    intro j hj
    obtain rfl : j = 8 := by omega
    refine pk_le 8 8 (fun _ => ?_) (fun z => absurd z (by omega))
    refine xm_all (fun tr' mt' h => ⟨vp_in_nI hb (by omega), ?_⟩)
    rw [nI_clamp (by omega)]
    exact xs_all (hK _ _ _ rfl h)
  | succ d ih =>
    intro j hj
    have hin : vp_in (nI j) 8 := vp_in_nI (by omega) (by omega)
    exact pk_le 8 j (fun z => absurd z (by omega)) (fun _ => ⟨hin, hin, nm_r (e' := zc_p (j + 1) tr bl0) (by rw [nI_clamp (by omega)]; exact cp_s j tr bl0) (nm_r (nI_1 j) (ih (j + 1) (by omega)))⟩)
theorem xu_30 {post : Int32 → SX → Prop} {a b : Nat} (ha : a < 8) (hb : b < 8) (h0 : ∀ tr, ¬ zf_T (zc_p 8 (zp_u bl a b) bl) → post (-3) (fc, fl, fm, fo, bl, tr, mt, c, lc, lo, ml, mn, oA, oB, im)) (hK : ∀ bl' tr mt, bl' = zc_p 8 (zp_u bl a b) bl → zf_T bl' → (∀ a, a < 8 → zt_M bl' mt a) → post (nI (ba_cn (bl' b) 8)) (fc, fl, fm, fo, bl', tr, mt, c, lc, lo, ml, mn, oA, oB, im)) : ∀ d j tr, j + d = 8 → (∀ i, i < j → tr i = zp_u bl a b i) → wX_under_30 post (nI a) (nI b) fc fl fm fo (d + 1) (nI j) bl tr mt c lc lo ml mn oA oB im := by
  intro d
  induction d with
  | zero =>
    intro j tr hj hp
    have e0 : zc_p 8 tr bl = zc_p 8 (zp_u bl a b) bl := cp_congr (fun i hi => hp i (by omega))
    have e1 : ∀ i, i < 8 → tr i = zc_p 8 (zp_u bl a b) bl i := fun i hi => by rw [cp_lt hi]; exact hp i (by omega)
    refine pk_le 8 j (fun _ => ?_) (fun z => absurd z (by omega))
    refine xf_all (fun y => br_t rfl (h0 tr (fun w => y (zf_congr (fun i hi => (e1 i hi).symm) w)))) (fun y => br_f (by decide) ⟨9, ?_⟩)
    have key := xu_102 (post := post) (fc := fc) (fl := fl) (fm := fm) (fo := fo) (tr := tr) (mt := mt) (c := c) (lc := lc) (lo := lo) (ml := ml) (mn := mn) (oA := oA) (oB := oB) (im := im) hb (bl0 := bl) (fun bl' tr' mt' e h => hK bl' tr' mt' (e.trans e0) (by rw [e, e0]; exact zf_congr e1 y) h) 8 0 rfl
    rw [cp_0] at key
    exact key
  | succ d ih =>
    intro j tr hj hp
    have hin : vp_in (nI j) 8 := vp_in_nI (by omega) (by omega)
    have hcl : (nI j).toNatClampNeg = j := nI_clamp (by omega)
    refine pk_le 8 j (fun z => absurd z (by omega)) (fun _ => ⟨hin, hin, nm_r (e' := upd tr j (bl j)) (by rw [hcl]) ⟨hin, ?_⟩⟩)
    refine ek_if (ba_hasC (by omega) (by omega)) (fun hb2 => ⟨hin, vp_in_nI ha (by omega), hin, nm_r (e' := upd (upd tr j (bl j)) j (bl j ||| bl a)) (by rw [hcl, nI_clamp (by omega)]) (nm_r (nI_1 j) (ih (j + 1) _ (by omega) (fun i hi => ?_)))⟩) (fun hb2 => nm_r (nI_1 j) (ih (j + 1) _ (by omega) (fun i hi => ?_)))
    · by_cases e : i = j
      · subst e
        rw [pk_us]
        exact (if_pos hb2).symm
      · rw [pk_un e, pk_un e]
        exact hp i (by omega)
    · by_cases e : i = j
      · subst e
        rw [pk_us]
        exact (if_neg hb2).symm
      · rw [pk_un e]
        exact hp i (by omega)
end
end
section
/-! ===== the hierarchy: the reference's walks ===== -/
theorem zp_self (h : Nat → Int32) (a b : Nat) : zp_u h a b a = h a := by
  unfold zp_u
  split
  · apply b_ext
    intro i _
    rw [b_or, Bool.or_self]
  · rfl
theorem zp_cp (h : Nat → Int32) (a b j : Nat) : zc_p j (zp_u h a b) h a = h a := by
  by_cases z : a < j
  · rw [cp_lt z, zp_self]
  · rw [cp_ge (by omega)]
section
variable {gc gm : Int32} {bl cs ty va fr ig pe ke : Nat → Int32}
theorem yh_as {post : Int32 → Prop} {x : Int32} {k : Nat} (hk : k < 32) (h1 : bt x k = true → post 1) (h0 : ¬ bt x k = true → post 0) : wpY_has post (gc, gm, bl, cs, ty, va, fr, ig, pe, ke) x (nI k) := ek_if (ba_has x hk) h1 h0
theorem yh_C {post : Int32 → Prop} {f : Nat → Int32} {a k : Nat} (ha : a < 2 ^ 31) (hk : k < 32) (h1 : bt (f a) k = true → post 1) (h0 : ¬ bt (f a) k = true → post 0) : wpY_has post (gc, gm, bl, cs, ty, va, fr, ig, pe, ke) (f (nI a).toNatClampNeg) (nI k) := ek_if (ba_hasC ha hk) h1 h0
theorem yg_2 {post : Int32 → Prop} {s : Int32} (h1 : ∀ t, zg_R bl s t → post (nI t)) (h4 : (∀ t, ¬ zg_R bl s t) → post (-4)) : ∀ d j, j + d = 8 → (∀ t, t < j → ¬ zg_R bl s t) → wY_greatest_2 post s gc gm bl cs ty va fr ig pe ke (d + 1) (nI j) := by
  intro d
  induction d with
  | zero =>
    intro j hj hn
    refine pk_le 8 j (fun _ => h4 (fun t g => ?_)) (fun z => absurd z (by omega))
    have := g.1
    exact hn t (by omega) g
  | succ d ih =>
    intro j hj hn
    have next : ¬ zg_R bl s j → wY_greatest_2 post s gc gm bl cs ty va fr ig pe ke (d + 1) (nI (j + 1)) := fun z => ih (j + 1) (by omega) (fun t ht => by
      by_cases e : t = j
      · rw [e]; exact z
      · exact hn t (by omega))
    refine pk_le 8 j (fun z => absurd z (by omega)) (fun _ => ?_)
    refine yh_as (by omega) (fun hb => br_f (by decide) ⟨vp_in_nI (by omega) (by omega), ?_⟩) (fun hb => br_t rfl (nm_r (nI_1 j) (next (fun g => hb g.2.1))))
    exact ek_if (ba_sub2C s (by omega)) (fun hs => h1 j ⟨by omega, hb, hs⟩) (fun hs => nm_r (nI_1 j) (next (fun g => hs g.2.2)))
theorem yg_all {post : Int32 → Prop} {s : Int32} (h1 : ∀ t, zg_R bl s t → post (nI t)) (h4 : (∀ t, ¬ zg_R bl s t) → post (-4)) : wpY_greatest post (gc, gm, bl, cs, ty, va, fr, ig, pe, ke) s := ⟨9, yg_2 h1 h4 8 0 rfl (fun t ht => absurd ht (by omega))⟩
theorem yf_63 {post J2 J10 : Int32 → Prop} {x1 : Int32} {a b : Nat} (h0 : ¬ zf_q bl a b → post 0) (h1 : zf_q bl a b → J10 (nI (b + 1))) : wY_isFit_63 post J2 J10 x1 (nI b) (bl a &&& bl b) gc gm bl cs ty va fr ig pe ke := by
  refine br_c (fun z => nm_r (nI_1 b) (h1 (Or.inl z))) (fun z => ?_)
  refine yg_all (fun t g => br_f (ba_n4 (by have := g.1; omega)) (nm_r (nI_1 b) (h1 (Or.inr ⟨t, g⟩)))) (fun g => br_t rfl (h0 (fun y => ?_)))
  rcases y with y | ⟨t, y⟩
  · exact z y
  · exact g t y
theorem yf_10 {post J2 : Int32 → Prop} {a : Nat} (ha : a < 8) (h0 : ¬ zf_T bl → post 0) (hJ : (∀ b, b < 8 → zf_p bl a b) → J2 (nI (a + 1))) : ∀ d j, j + d = 8 → (∀ b, b < j → zf_p bl a b) → wY_isFit_10 post J2 (nI a) gc gm bl cs ty va fr ig pe ke (d + 1) (nI j) := by
  intro d
  induction d with
  | zero =>
    intro j hj hp
    exact pk_le 8 j (fun _ => nm_r (nI_1 a) (hJ (fun b hb => hp b (by omega)))) (fun z => absurd z (by omega))
  | succ d ih =>
    intro j hj hp
    have hj8 : j < 8 := by omega
    have next : zf_p bl a j → wY_isFit_10 post J2 (nI a) gc gm bl cs ty va fr ig pe ke (d + 1) (nI (j + 1)) := fun z => ih (j + 1) (by omega) (fun t ht => by
      by_cases e : t = j
      · rw [e]; exact z
      · exact hp t (by omega))
    have k0 : ¬ zf_p bl a j → post 0 := fun z => h0 (fun y => z (y a ha j hj8))
    have k63 : (a ≠ j → ¬ (bt (bl a) j = true ∧ bt (bl j) a = true)) → wY_isFit_63 post J2 (wY_isFit_10 post J2 (nI a) gc gm bl cs ty va fr ig pe ke (d + 1)) (nI a) (nI j) (bl a &&& bl j) gc gm bl cs ty va fr ig pe ke := fun z => yf_63 (fun y => k0 (fun w => y w.2)) (fun y => next ⟨z, y⟩)
    have hia : vp_in (nI a) 8 := vp_in_nI ha (by omega)
    have hij : vp_in (nI j) 8 := vp_in_nI hj8 (by omega)
    refine pk_le 8 j (fun z => absurd z (by omega)) (fun _ => ⟨hia, hij, nm_r (e' := bl a &&& bl j) (by rw [nI_clamp (by omega), nI_clamp (by omega)]) ?_⟩)
    refine pk_eq a j (fun e => k63 (fun z => absurd e z)) (fun e => ⟨hia, ?_⟩)
    refine yh_C (by omega) (by omega) (fun hb => br_f (by decide) ⟨hij, ?_⟩) (fun hb => br_t rfl (k63 (fun _ y => hb y.1)))
    exact yh_C (by omega) (by omega) (fun hb2 => br_f (by decide) (k0 (fun y => y.1 e ⟨hb, hb2⟩))) (fun hb2 => br_t rfl (k63 (fun _ y => hb2 y.2)))
theorem yf_2 {post : Int32 → Prop} (h0 : ¬ zf_T bl → post 0) (h1 : zf_T bl → post 1) : ∀ d j, j + d = 8 → (∀ a, a < j → ∀ b, b < 8 → zf_p bl a b) → wY_isFit_2 post gc gm bl cs ty va fr ig pe ke (d + 1) (nI j) := by
  intro d
  induction d with
  | zero =>
    intro j hj hp
    exact pk_le 8 j (fun _ => h1 (fun a ha => hp a (by omega))) (fun z => absurd z (by omega))
  | succ d ih =>
    intro j hj hp
    refine pk_le 8 j (fun z => absurd z (by omega)) (fun _ => ⟨9, ?_⟩)
    refine yf_10 (by omega) h0 (fun z => ih (j + 1) (by omega) (fun a ha => ?_)) 8 0 rfl (fun b hb => absurd hb (by omega))
    by_cases e : a = j
    · rw [e]; exact z
    · exact hp a (by omega)
theorem yf_all {post : Int32 → Prop} (h0 : ¬ zf_T bl → post 0) (h1 : zf_T bl → post 1) : wpY_isFit post (gc, gm, bl, cs, ty, va, fr, ig, pe, ke) := ⟨9, yf_2 h0 h1 8 0 rfl (fun a ha => absurd ha (by omega))⟩
theorem yp_2 {post : SY → Prop} {a b : Nat} {h : Nat → Int32} (ha : a < 8) (hb : b < 8) (hK : post (gc, gm, zc_p 8 (zp_u h a b) h, cs, ty, va, fr, ig, pe, ke)) : ∀ d j, j + d = 8 → wY_putUnder_2 post (nI a) (nI b) gc gm (d + 1) (nI j) (zc_p j (zp_u h a b) h) cs ty va fr ig pe ke := by
  intro d
  induction d with
  | zero =>
    intro j hj
    obtain rfl : j = 8 := by omega
    exact pk_le 8 8 (fun _ => hK) (fun z => absurd z (by omega))
  | succ d ih =>
    intro j hj
    have hij : vp_in (nI j) 8 := vp_in_nI (by omega) (by omega)
    have hcj : zc_p j (zp_u h a b) h j = h j := cp_ge (Nat.le_refl _)
    refine pk_le 8 j (fun z => absurd z (by omega)) (fun _ => ⟨hij, ?_⟩)
    refine yh_C (f := zc_p j (zp_u h a b) h) (by omega) (by omega) (fun hz => br_f (by decide) ⟨hij, vp_in_nI ha (by omega), hij, nm_r (e' := zc_p (j + 1) (zp_u h a b) h) ?_ (nm_r (nI_1 j) (ih (j + 1) (by omega)))⟩) (fun hz => br_t rfl (nm_r (nI_1 j) ?_))
    · rw [hcj] at hz
      rw [nI_clamp (by omega), nI_clamp (by omega), hcj, zp_cp]
      exact cp_sv (if_pos hz).symm
    · rw [hcj] at hz
      rw [cp_skip (k := j) (if_neg hz).symm]
      exact ih (j + 1) (by omega)
theorem yp_all {post : SY → Prop} {a b : Nat} (ha : a < 8) (hb : b < 8) (hK : post (gc, gm, zc_p 8 (zp_u bl a b) bl, cs, ty, va, fr, ig, pe, ke)) : wpY_putUnder post (gc, gm, bl, cs, ty, va, fr, ig, pe, ke) (nI a) (nI b) := by
  refine ⟨9, ?_⟩
  have h := yp_2 (gc := gc) (gm := gm) (cs := cs) (ty := ty) (va := va) (fr := fr) (ig := ig) (pe := pe) (ke := ke) ha hb hK 8 0 rfl
  rw [cp_0] at h
  exact h
theorem ys_4 {post : Int32 → Prop} {s : Int32} (h : post (nI (ba_cn s 16))) : ∀ d j, j + d = 16 → wY_sizeOf_4 post s gc gm bl cs ty va fr ig pe ke (d + 1) (nI (ba_cn s j)) (nI j) := by
  intro d
  induction d with
  | zero =>
    intro j hj
    obtain rfl : j = 16 := by omega
    exact pk_le 16 16 (fun _ => h) (fun z => absurd z (by omega))
  | succ d ih =>
    intro j hj
    exact pk_le 16 j (fun z => absurd z (by omega)) (fun _ => nm_r (ba_add_bit s (by omega)) (nm_r (nI_1 j) (ih (j + 1) (by omega))))
theorem ys_all {post : Int32 → Prop} {s : Int32} (h : post (nI (ba_cn s 16))) : wpY_sizeOf post (gc, gm, bl, cs, ty, va, fr, ig, pe, ke) s := ⟨17, ys_4 h 16 0 rfl⟩
theorem yb_1 {post : Int32 → Prop} {j : Nat} (hj : j < 8) (h : post 1) : wpY_isType post (gc, gm, bl, cs, ty, va, fr, ig, pe, ke) (nI j) :=
  br_f (nI_pos (by omega)) (br_f (nI_nlt (a := 7) (b := j) (by omega) (by omega)) h)
theorem yb_0 {post : Int32 → Prop} {v : Int32} (hv : v < 0 ∨ nI 8 ≤ v) (h : post 0) : wpY_isType post (gc, gm, bl, cs, ty, va, fr, ig, pe, ke) v := by
  rcases hv with z | z
  · exact br_t z h
  · refine br_c (fun _ => h) (fun _ => br_t ?_ h)
    exact Int32.lt_of_lt_of_le (by decide) z
theorem yu_80 {post : Int32 → SY → Prop} {h : Nat → Int32} (hK : post (-3) (gc, gm, zc_p 8 fr h, cs, ty, va, fr, ig, pe, ke)) : ∀ d j, j + d = 8 → wY_under_80 post gc gm (d + 1) (nI j) (zc_p j fr h) cs ty va fr ig pe ke := by
  intro d
  induction d with
  | zero =>
    intro j hj
    obtain rfl : j = 8 := by omega
    exact pk_le 8 8 (fun _ => hK) (fun z => absurd z (by omega))
  | succ d ih =>
    intro j hj
    exact pk_le 8 j (fun z => absurd z (by omega)) (fun _ => ⟨vp_in_nI (by omega) (by omega), vp_in_nI (by omega) (by omega), nm_r (e' := zc_p (j + 1) fr h) (by rw [nI_clamp (by omega)]; exact cp_s j fr h) (nm_r (nI_1 j) (ih (j + 1) (by omega)))⟩)
theorem yu_30 {post : Int32 → SY → Prop} {a b : Nat} (ha : a < 8) (hb : b < 8) (h0 : ∀ fr, ¬ zf_T (zc_p 8 (zp_u bl a b) bl) → post (-3) (gc, gm, bl, cs, ty, va, fr, ig, pe, ke)) (hK : ∀ bl' fr, bl' = zc_p 8 (zp_u bl a b) bl → zf_T bl' → post (nI (ba_cn (bl' b) 16)) (gc, gm, bl', cs, ty, va, fr, ig, pe, ke)) : ∀ d j fr, j + d = 8 → (∀ i, i < j → fr i = bl i) → wY_under_30 post (nI a) (nI b) gc gm (d + 1) (nI j) bl cs ty va fr ig pe ke := by
  intro d
  induction d with
  | zero =>
    intro j fr hj hp
    refine pk_le 8 j (fun _ => ?_) (fun z => absurd z (by omega))
    refine yp_all ha hb (yf_all (fun y => br_t rfl ⟨9, ?_⟩) (fun y => br_f (by decide) ⟨vp_in_nI hb (by omega), ?_⟩))
    · have key := yu_80 (post := post) (gc := gc) (gm := gm) (cs := cs) (ty := ty) (va := va) (fr := fr) (ig := ig) (pe := pe) (ke := ke) (h := zc_p 8 (zp_u bl a b) bl) (by rw [cp_back (fun i hi => hp i (by omega))]; exact h0 fr y) 8 0 rfl
      rw [cp_0] at key
      exact key
    · rw [nI_clamp (by omega)]
      exact ys_all (hK _ fr rfl y)
  | succ d ih =>
    intro j fr hj hp
    refine pk_le 8 j (fun z => absurd z (by omega)) (fun _ => ⟨vp_in_nI (by omega) (by omega), vp_in_nI (by omega) (by omega), nm_r (e' := upd fr j (bl j)) (by rw [nI_clamp (by omega)]) (nm_r (nI_1 j) (ih (j + 1) _ (by omega) (fun i hi => ?_)))⟩)
    by_cases e : i = j
    · subst e
      exact pk_us
    · rw [pk_un e]
      exact hp i (by omega)
end
end
section
/-! ===== the hierarchy: laws, and both constructors ===== -/
/-- digits within, reflexive, transitive -/
def zh_B (h : Nat → Int32) : Prop := (∀ t, t < 8 → ∀ i, bt (h t) i = true → i < 8) ∧ (∀ t, t < 8 → bt (h t) t = true) ∧ (∀ t, t < 8 → ∀ s, s < 8 → ∀ r, bt (h t) s = true → bt (h s) r = true → bt (h t) r = true)
theorem zp_bit (h : Nat → Int32) (a b t i : Nat) : bt (zp_u h a b t) i = true ↔ bt (h t) i = true ∨ (bt (h t) b = true ∧ bt (h a) i = true) := by
  unfold zp_u
  by_cases z : bt (h t) b = true
  · rw [if_pos z, b_or, Bool.or_eq_true]
    exact ⟨fun y => y.elim Or.inl (fun w => Or.inr ⟨z, w⟩), fun y => y.elim Or.inl (fun w => Or.inr w.2)⟩
  · rw [if_neg z]
    exact ⟨Or.inl, fun y => y.elim id (fun w => absurd w.1 z)⟩
theorem zh_under {h : Nat → Int32} {a b : Nat} (ha : a < 8) (H : zh_B h) : zh_B (zc_p 8 (zp_u h a b) h) := by
  obtain ⟨H1, H2, H3⟩ := H
  refine ⟨?_, ?_, ?_⟩
  · intro t ht i hi
    rw [cp_lt ht, zp_bit] at hi
    rcases hi with z | z
    · exact H1 t ht i z
    · exact H1 a ha i z.2
  · intro t ht
    rw [cp_lt ht, zp_bit]
    exact Or.inl (H2 t ht)
  · intro t ht s hs r h1 h2
    rw [cp_lt ht, zp_bit] at h1 ⊢
    rw [cp_lt hs, zp_bit] at h2
    rcases h1 with x | x
    · rcases h2 with y | y
      · exact Or.inl (H3 t ht s hs r x y)
      · exact Or.inr ⟨H3 t ht s hs b x y.1, y.2⟩
    · rcases h2 with y | y
      · exact Or.inr ⟨x.1, H3 a ha s hs r x.2 y⟩
      · exact Or.inr ⟨x.1, y.2⟩
def zh_I (h mt : Nat → Int32) : Prop := zh_B h ∧ zf_T h ∧ ∀ a, a < 8 → zt_M h mt a
/-- two greatest ones of a set are one -/
theorem zg_uniq {h : Nat → Int32} {s : Int32} {t t' : Nat} (H : zf_T h) (g : zg_R h s t) (g' : zg_R h s t') : t = t' := by
  by_cases e : t = t'
  · exact e
  · have h1 := g.1
    have h2 := g'.1
    exact absurd ⟨g.2.2 t' (by omega) g'.2.1, g'.2.2 t (by omega) g.2.1⟩ ((H t g.1 t' g'.1).1 e)
/-- the table's answer is what greatest finds -/
theorem zm_get {h mt : Nat → Int32} (H : zh_I h mt) {a b : Nat} (ha : a < 8) (hb : b < 8) : (mt (a * 8 + b) = -4 ∧ ∀ t, ¬ zg_R h (h a &&& h b) t) ∨ ∃ t, zg_R h (h a &&& h b) t ∧ mt (a * 8 + b) = nI t := by
  rcases H.2.2 a ha b hb with ⟨z, e⟩ | ⟨_, t, g, e⟩ | ⟨z, g, _⟩
  · refine Or.inl ⟨e, fun t g => ?_⟩
    have := g.2.1
    rw [z, b_0] at this
    exact absurd this (by decide)
  · exact Or.inr ⟨t, g, e⟩
  · rcases (H.2.1 a ha b hb).2 with y | ⟨t, y⟩
    · exact absurd y z
    · exact absurd y (g t)
def zi_b : Nat → Int32 := fun j => if j = 0 then 255 else (1 : Int32) <<< (nI j &&& 31)
def zi_h : Nat → Int32 := zc_p 8 zi_b (fun _ => 0)
theorem zi_x : upd (zc_p 8 (fun t => (1 : Int32) <<< (nI t &&& 31)) (fun _ => 0)) 0 255 = zi_h := by
  funext i
  unfold zi_h
  by_cases h : i = 0
  · subst h
    rw [pk_us, cp_lt (by omega)]
    rfl
  · rw [pk_un h]
    by_cases h2 : i < 8
    · rw [cp_lt h2, cp_lt h2]
      exact (if_neg h).symm
    · rw [cp_ge (by omega), cp_ge (by omega)]
theorem zi_y : upd (fun _ => 0) 0 255 = zc_p 1 zi_b (fun _ => 0) := by
  funext i
  by_cases h : i = 0
  · subst h
    rw [pk_us, cp_lt (by omega)]
    rfl
  · rw [pk_un h, cp_ge (by omega)]
theorem zi_1 : ∀ t, t < 8 → ∀ i, i < 32 → bt (zi_h t) i = true → i < 8 := by decide +kernel
theorem zi_2 : ∀ t, t < 8 → bt (zi_h t) t = true := by decide +kernel
theorem zi_3 : ∀ t, t < 8 → ∀ s, s < 8 → ∀ r, r < 32 → bt (zi_h t) s = true → bt (zi_h s) r = true → bt (zi_h t) r = true := by decide +kernel
theorem zi_4 : ∀ a, a < 8 → ∀ b, b < 8 → (a ≠ b → ¬ (bt (zi_h a) b = true ∧ bt (zi_h b) a = true)) := by decide +kernel
theorem zi_5 : ∀ a, a < 8 → ∀ b, b < 8 → (zi_h a &&& zi_h b = 0 ∨ (bt (zi_h a &&& zi_h b) (if a = 0 then b else a) = true ∧ ∀ i, i < 32 → bt (zi_h a &&& zi_h b) i = true → bt (zi_h (if a = 0 then b else a)) i = true)) := by decide +kernel
theorem zi_B : zh_B zi_h := by
  refine ⟨fun t ht i hi => ?_, zi_2, fun t ht s hs r h1 h2 => ?_⟩
  · by_cases z : i < 32
    · exact zi_1 t ht i z hi
    · rw [b_big (by omega)] at hi
      exact absurd hi (by decide)
  · by_cases z : r < 32
    · exact zi_3 t ht s hs r z h1 h2
    · rw [b_big (by omega)] at h2
      exact absurd h2 (by decide)
theorem zi_T : zf_T zi_h := by
  intro a ha b hb
  refine ⟨zi_4 a ha b hb, ?_⟩
  rcases zi_5 a ha b hb with z | ⟨z, y⟩
  · exact Or.inl z
  · exact Or.inr ⟨if a = 0 then b else a, by split <;> omega, z, y⟩
theorem xi_96 {post : SX → Prop} {fc fl fm fo : Int32} {tr mt c lc lo ml mn oA oB im : Nat → Int32} (hK : ∀ tr mt, (∀ a, a < 8 → zt_M zi_h mt a) → post (fc, fl, fm, fo, zi_h, tr, mt, c, lc, lo, ml, mn, oA, oB, im)) : ∀ d j, j + d = 8 → wX_init_96 post fc fl fm fo (d + 1) (nI j) (zc_p j (fun t => (1 : Int32) <<< (nI t &&& 31)) (fun _ => 0)) tr mt c lc lo ml mn oA oB im := by
  intro d
  induction d with
  | zero =>
    intro j hj
    obtain rfl : j = 8 := by omega
    exact pk_le 8 8 (fun _ => nm_r zi_x (xm_all hK)) (fun z => absurd z (by omega))
  | succ d ih =>
    intro j hj
    exact pk_le 8 j (fun z => absurd z (by omega)) (fun _ => ⟨vp_in_nI (by omega) (by omega), nm_r (e' := zc_p (j + 1) (fun t => (1 : Int32) <<< (nI t &&& 31)) (fun _ => 0)) (by rw [nI_clamp (by omega)]; exact cp_s j (fun t => (1 : Int32) <<< (nI t &&& 31)) (fun _ => 0)) (nm_r (nI_1 j) (ih (j + 1) (by omega)))⟩)
theorem xi_all {post : SX → Prop} (hK : ∀ tr mt, (∀ a, a < 8 → zt_M zi_h mt a) → post (0, 0, 0, 0, zi_h, tr, mt, (fun _ => 0), (fun _ => 0), (fun _ => 0), (fun _ => 0), (fun _ => 0), (fun _ => 0), (fun _ => 0), (fun _ => 0))) : wpX_init post := by
  refine ⟨9, ?_⟩
  have h := xi_96 (tr := fun _ => 0) (mt := fun _ => 0) hK 8 0 rfl
  rw [cp_0] at h
  exact h
theorem yi_80 {post : SY → Prop} {gc gm : Int32} {cs ty va fr ig pe ke : Nat → Int32} (hK : post (gc, gm, zi_h, cs, ty, va, fr, ig, pe, ke)) : ∀ d j, j + d = 8 → 0 < j → wY_init_80 post gc gm (d + 1) (nI j) (zc_p j zi_b (fun _ => 0)) cs ty va fr ig pe ke := by
  intro d
  induction d with
  | zero =>
    intro j hj _
    obtain rfl : j = 8 := by omega
    exact pk_le 8 8 (fun _ => hK) (fun z => absurd z (by omega))
  | succ d ih =>
    intro j hj h0
    exact pk_le 8 j (fun z => absurd z (by omega)) (fun _ => ⟨vp_in_nI (by omega) (by omega), nm_r (e' := zc_p (j + 1) zi_b (fun _ => 0)) (by rw [nI_clamp (by omega)]; exact cp_sv (if_neg (by omega)).symm) (nm_r (nI_1 j) (ih (j + 1) (by omega) (by omega)))⟩)
theorem yi_all {post : SY → Prop} (hK : post (0, 0, zi_h, (fun _ => 0), (fun _ => 0), (fun _ => 0), (fun _ => 0), (fun _ => 0), (fun _ => 0), (fun _ => 0))) : wpY_init post := nm_r zi_y ⟨8, yi_80 hK 7 1 rfl (by omega)⟩
end
section
/-! ===== find, cells, the log: pure notions ===== -/
def zd_k (c : Nat → Int32) : Nat → Nat → Nat
  | 0, a => a
  | k + 1, a => if c a < 0 then a else zd_k c k (c a).toNatClampNeg
/-- the node that stands for a -/
def zd_f (c : Nat → Int32) (a : Nat) : Nat := zd_k c a a
def zp_I (n : Nat) (c : Nat → Int32) : Prop := ∀ i, i < n → c i = -1 ∨ ∃ j, j < i ∧ c i = nI j
theorem zd_rk {c : Nat → Int32} {a : Nat} (h : c a < 0) : ∀ k, zd_k c k a = a := by
  intro k
  cases k with
  | zero => rfl
  | succ k => exact if_pos h
theorem zd_root {c : Nat → Int32} {a : Nat} (h : c a = -1) : zd_f c a = a := zd_rk (by rw [h]; decide) a
theorem zd_sk {c : Nat → Int32} {a j : Nat} (hj : j < 2 ^ 31) (e : c a = nI j) (k : Nat) : zd_k c (k + 1) a = zd_k c k j := by
  show (if c a < 0 then a else zd_k c k (c a).toNatClampNeg) = _
  rw [e, if_neg (nI_pos hj), nI_clamp hj]
section
variable {n : Nat} {c : Nat → Int32}
theorem zd_kf (hn : n ≤ 16) (hp : zp_I n c) : ∀ a, a < n → ∀ k, a ≤ k → zd_k c k a = zd_k c a a := by
  intro a
  induction a using Nat.strongRecOn with
  | ind a ih =>
    intro ha k hk
    rcases hp a ha with e | ⟨j, hj, e⟩
    · have z : c a < 0 := by rw [e]; decide
      rw [zd_rk z, zd_rk z]
    · obtain ⟨k', rfl⟩ : ∃ k', k = k' + 1 := ⟨k - 1, by omega⟩
      obtain ⟨a', ea⟩ : ∃ a', a = a' + 1 := ⟨a - 1, by omega⟩
      rw [zd_sk (by omega) e k', ih j hj (by omega) k' (by omega)]
      have h2 : zd_k c a a = zd_k c (a' + 1) a := by rw [ea]
      rw [h2, zd_sk (by omega) e a', ih j hj (by omega) a' (by omega)]
theorem zd_step (hn : n ≤ 16) (hp : zp_I n c) {a j : Nat} (ha : a < n) (hj : j < a) (e : c a = nI j) : zd_f c a = zd_f c j := by
  obtain ⟨a', ea⟩ : ∃ a', a = a' + 1 := ⟨a - 1, by omega⟩
  have h2 : zd_f c a = zd_k c (a' + 1) a := by rw [← ea]; rfl
  rw [h2, zd_sk (by omega) e a', zd_kf hn hp j (by omega) a' (by omega)]
  rfl
theorem zd_le (hn : n ≤ 16) (hp : zp_I n c) : ∀ a, a < n → zd_f c a ≤ a := by
  intro a
  induction a using Nat.strongRecOn with
  | ind a ih =>
    intro ha
    rcases hp a ha with e | ⟨j, hj, e⟩
    · rw [zd_root e]
      exact Nat.le_refl _
    · rw [zd_step hn hp ha hj e]
      have := ih j hj (by omega)
      omega
theorem zd_lt (hn : n ≤ 16) (hp : zp_I n c) {a : Nat} (ha : a < n) : zd_f c a < n := Nat.lt_of_le_of_lt (zd_le hn hp a ha) ha
theorem zd_isr (hn : n ≤ 16) (hp : zp_I n c) : ∀ a, a < n → c (zd_f c a) = -1 := by
  intro a
  induction a using Nat.strongRecOn with
  | ind a ih =>
    intro ha
    rcases hp a ha with e | ⟨j, hj, e⟩
    · rw [zd_root e]
      exact e
    · rw [zd_step hn hp ha hj e]
      exact ih j hj (by omega)
theorem zd_idem (hn : n ≤ 16) (hp : zp_I n c) {a : Nat} (ha : a < n) : zd_f c (zd_f c a) = zd_f c a := zd_root (zd_isr hn hp a ha)
theorem zp_congr {c' : Nat → Int32} (e : ∀ i, i < n → c' i = c i) (hp : zp_I n c) : zp_I n c' := by
  intro i hi
  rw [e i hi]
  exact hp i hi
theorem zd_congr {c' : Nat → Int32} (hn : n ≤ 16) (hp : zp_I n c) (e : ∀ i, i < n → c' i = c i) : ∀ a, a < n → zd_f c' a = zd_f c a := by
  intro a
  induction a using Nat.strongRecOn with
  | ind a ih =>
    intro ha
    rcases hp a ha with z | ⟨j, hj, z⟩
    · rw [zd_root z, zd_root ((e a ha).trans z)]
    · rw [zd_step hn hp ha hj z, zd_step hn (zp_congr e hp) ha hj ((e a ha).trans z)]
      exact ih j hj (by omega)
theorem zp_link {c' : Nat → Int32} {kp gn : Nat} (hp : zp_I n c) (hk : kp < gn) (e1 : c' gn = nI kp) (e2 : ∀ i, i < n → i ≠ gn → c' i = c i) : zp_I n c' := by
  intro i hi
  by_cases z : i = gn
  · subst z
    exact Or.inr ⟨kp, hk, e1⟩
  · rw [e2 i hi z]
    exact hp i hi
theorem zd_link {c' : Nat → Int32} {kp gn : Nat} (hn : n ≤ 16) (hp : zp_I n c) (hk : kp < gn) (hg : gn < n) (rk : c kp = -1) (rg : c gn = -1) (e1 : c' gn = nI kp) (e2 : ∀ i, i < n → i ≠ gn → c' i = c i) : ∀ a, a < n → zd_f c' a = if zd_f c a = gn then kp else zd_f c a := by
  have hp' := zp_link hp hk e1 e2
  have hkr : zd_f c' kp = kp := zd_root ((e2 kp (by omega) (by omega)).trans rk)
  intro a
  induction a using Nat.strongRecOn with
  | ind a ih =>
    intro ha
    by_cases z : a = gn
    · subst z
      rw [zd_step hn hp' hg hk e1, hkr, zd_root rg, if_pos rfl]
    · rcases hp a ha with y | ⟨j, hj, y⟩
      · rw [zd_root y, zd_root ((e2 a ha z).trans y), if_neg z]
      · rw [zd_step hn hp ha hj y, zd_step hn hp' ha hj ((e2 a ha z).trans y)]
        exact ih j hj (by omega)
theorem zp_neg (hn : n ≤ 16) (hp : zp_I n c) {a : Nat} (ha : a < n) : c a < 0 ↔ c a = -1 := by
  constructor
  · intro h
    rcases hp a ha with e | ⟨j, hj, e⟩
    · exact e
    · rw [e] at h
      exact absurd h (nI_pos (by omega))
  · intro h
    rw [h]
    decide
end
/-- the cells of n nodes -/
def zx_I (n : Nat) (c : Nat → Int32) : Prop := zp_I n c ∧ (∀ i, i < n → ∃ t, t < 8 ∧ c (16 + i) = nI t) ∧ (∀ i, i < n → ∀ f, f < 3 → c (32 + i * 3 + f) = -1 ∨ ∃ j, j < n ∧ c (32 + i * 3 + f) = nI j)
/-- the value that is answered -/
def zv_l (c : Nat → Int32) (r f : Nat) : Int32 := if c (32 + r * 3 + f) < 0 then -4 else nI (zd_f c (c (32 + r * 3 + f)).toNatClampNeg)
/-- room that a node's changes may have taken in the log -/
def zq_1 (c : Nat → Int32) (i : Nat) : Nat := (if c i < 0 then 0 else 2) + ((if c (32 + i * 3 + 0) < 0 then 0 else 1) + (if c (32 + i * 3 + 1) < 0 then 0 else 1) + (if c (32 + i * 3 + 2) < 0 then 0 else 1))
def zq_P (n : Nat) (c : Nat → Int32) : Nat := zs_m (zq_1 c) n
theorem zq_bd (c : Nat → Int32) {n : Nat} (hn : n ≤ 16) : zq_P n c ≤ 80 := by
  have h := sm_bd (f := zq_1 c) (m := 5) n (fun i _ => by
    unfold zq_1
    split <;> split <;> split <;> split <;> omega)
  unfold zq_P
  omega
/-- the cells of the first n nodes agree -/
def zn_A (n : Nat) (c c' : Nat → Int32) : Prop := ∀ i, i < n → c' i = c i ∧ c' (16 + i) = c (16 + i) ∧ ∀ f, f < 3 → c' (32 + i * 3 + f) = c (32 + i * 3 + f)
theorem zq_congr {n : Nat} {c c' : Nat → Int32} (h : zn_A n c c') : zq_P n c' = zq_P n c := by
  refine sm_congr n (fun i hi => ?_)
  unfold zq_1
  rw [(h i hi).1, (h i hi).2.2 0 (by omega), (h i hi).2.2 1 (by omega), (h i hi).2.2 2 (by omega)]
theorem zx_congr {n : Nat} {c c' : Nat → Int32} (h : zn_A n c c') (x : zx_I n c) : zx_I n c' := by
  refine ⟨zp_congr (fun i hi => (h i hi).1) x.1, fun i hi => ?_, fun i hi f hf => ?_⟩
  · rw [(h i hi).2.1]
    exact x.2.1 i hi
  · rw [(h i hi).2.2 f hf]
    exact x.2.2 i hi f hf
/-- undoing the log from L down to m -/
def zu_n (lc lo : Nat → Int32) (m : Nat) : Nat → (Nat → Int32) → (Nat → Int32)
  | 0, c => c
  | L + 1, c => if m ≤ L then zu_n lc lo m L (upd c (lc L).toNatClampNeg (lo L)) else c
theorem zu_ge {lc lo : Nat → Int32} {m L : Nat} (h : L ≤ m) (c : Nat → Int32) : zu_n lc lo m L c = c := by
  cases L with
  | zero => rfl
  | succ L => exact if_neg (by omega)
theorem zu_s {lc lo : Nat → Int32} {m L : Nat} (h : m ≤ L) (c : Nat → Int32) : zu_n lc lo m (L + 1) c = zu_n lc lo m L (upd c (lc L).toNatClampNeg (lo L)) := if_pos h
theorem zu_comp {lc lo : Nat → Int32} {m s : Nat} (h1 : m ≤ s) : ∀ L, s ≤ L → ∀ c, zu_n lc lo m s (zu_n lc lo s L c) = zu_n lc lo m L c := by
  intro L
  induction L with
  | zero =>
    intro h2 c
    obtain rfl : s = 0 := by omega
    rfl
  | succ L ih =>
    intro h2 c
    by_cases z : s ≤ L
    · rw [zu_s z, zu_s (by omega)]
      exact ih z _
    · obtain rfl : s = L + 1 := by omega
      rw [zu_ge (Nat.le_refl _)]
theorem zu_congr {lc lo lc' lo' : Nat → Int32} {m : Nat} : ∀ L, (∀ k, k < L → lc' k = lc k ∧ lo' k = lo k) → ∀ c, zu_n lc' lo' m L c = zu_n lc lo m L c := by
  intro L
  induction L with
  | zero => intro _ c; rfl
  | succ L ih =>
    intro h c
    by_cases z : m ≤ L
    · rw [zu_s z, zu_s z, (h L (by omega)).1, (h L (by omega)).2]
      exact ih (fun k hk => h k (by omega)) _
    · rw [zu_ge (by omega), zu_ge (by omega)]
theorem zu_at {lc lo : Nat → Int32} {m j : Nat} : ∀ L (c c' : Nat → Int32), c' j = c j → zu_n lc lo m L c' j = zu_n lc lo m L c j := by
  intro L
  induction L with
  | zero => intro c c' h; exact h
  | succ L ih =>
    intro c c' h
    by_cases z : m ≤ L
    · rw [zu_s z, zu_s z]
      refine ih _ _ ?_
      by_cases e : j = (lc L).toNatClampNeg
      · rw [e, pk_us, pk_us]
      · rw [pk_un e, pk_un e, h]
    · rw [zu_ge (by omega), zu_ge (by omega), h]
theorem zu_chg {lc lo c : Nat → Int32} {m L p : Nat} {v : Int32} (hm : m ≤ L) (hp : p < 2 ^ 31) : zu_n (upd lc L (nI p)) (upd lo L (c p)) m (L + 1) (upd c p v) = zu_n lc lo m L c := by
  rw [zu_s hm, pk_us, pk_us, nI_clamp hp, ba_uu]
  exact zu_congr L (fun k hk => ⟨pk_un (by omega), pk_un (by omega)⟩) c
/-- one state of nodes: the component's cells and the reference's arrays -/
def zn_S (n L : Nat) (c cs ty va : Nat → Int32) : Prop := n ≤ 16 ∧ zx_I n c ∧ L ≤ zq_P n c ∧ (∀ i, i < n → cs i = nI (zd_f c i)) ∧ (∀ r, r < n → c r = -1 → ty r = c (16 + r) ∧ ∀ f, f < 3 → va (3 * r + f) = zv_l c r f)
theorem zv_congr {n : Nat} {c c' : Nat → Int32} (hn : n ≤ 16) (h : zn_A n c c') (x : zx_I n c) {r f : Nat} (hr : r < n) (hf : f < 3) : zv_l c' r f = zv_l c r f := by
  unfold zv_l
  rw [(h r hr).2.2 f hf]
  rcases x.2.2 r hr f hf with e | ⟨j, hj, e⟩
  · rw [e, if_pos ba_m1, if_pos ba_m1]
  · rw [e, if_neg (nI_pos (by omega)), if_neg (nI_pos (by omega)), nI_clamp (by omega), zd_congr hn x.1 (fun i hi => (h i hi).1) j hj]
theorem zn_congr {n L : Nat} {c c' cs cs' ty ty' va va' : Nat → Int32} (h : zn_A n c c') (h1 : ∀ i, i < n → cs' i = cs i) (h2 : ∀ i, i < n → ty' i = ty i) (h3 : ∀ i, i < 3 * n → va' i = va i) (s : zn_S n L c cs ty va) : zn_S n L c' cs' ty' va' := by
  obtain ⟨s1, s2, s3, s4, s5⟩ := s
  refine ⟨s1, zx_congr h s2, by rw [zq_congr h]; exact s3, fun i hi => ?_, fun r hr e => ?_⟩
  · rw [h1 i hi, zd_congr s1 s2.1 (fun i hi => (h i hi).1) i hi]
    exact s4 i hi
  · rw [(h r hr).1] at e
    refine ⟨?_, fun f hf => ?_⟩
    · rw [h2 r hr, (h r hr).2.1]
      exact (s5 r hr e).1
    · rw [h3 (3 * r + f) (by omega), zv_congr s1 h s2 hr hf]
      exact (s5 r hr e).2 f hf
theorem zn_refl (n : Nat) (c : Nat → Int32) : zn_A n c c := fun _ _ => ⟨rfl, rfl, fun _ _ => rfl⟩
/-- the marks: what undoing to each of them gives is the copy that the reference kept -/
def zk_M (n L mc : Nat) (c lc lo ml mn ke : Nat → Int32) : Prop := ∃ M K : Nat → Nat, (∀ i, i < mc → ml i = nI (M i) ∧ mn i = nI (K i) ∧ ke (81 * i + 80) = nI (K i) ∧ M i ≤ L ∧ K i ≤ n ∧ zn_S (K i) (M i) (zu_n lc lo (M i) L c) (fun j => ke (81 * i + j)) (fun j => ke (81 * i + 16 + j)) (fun j => ke (81 * i + 32 + j))) ∧ (∀ i j, i < j → j < mc → M i ≤ M j ∧ K i ≤ K j)
def zr_R (n L mc : Nat) (bl mt c lc lo ml mn cs ty va ke : Nat → Int32) : Prop := mc ≤ 6 ∧ zh_I bl mt ∧ zn_S n L c cs ty va ∧ (∀ k, k < L → ∃ j, j < 80 ∧ lc k = nI j) ∧ zk_M n L mc c lc lo ml mn ke
end
section
/-! ===== the component's small walks ===== -/
theorem ba_pl {m : Nat} (h : m < 2 ^ 31) : nI m - 1 < nI m := by
  cases m with
  | zero => decide
  | succ m =>
    rw [nI_pred]
    exact nI_lt (by omega) h
theorem ba_nm (k : Nat) : nI k + (-1) = nI k - 1 := (Int32.sub_eq_add_neg (nI k) 1).symm
section
variable {fc fl fm fo : Int32} {bl tr mt c lc lo ml mn oA oB im : Nat → Int32} {n : Nat}
theorem xd_4 {post : Int32 → Prop} (hn : n ≤ 16) (hp : zp_I n c) : ∀ a, a < n → ∀ i k, a + i < 16 → a < k → post (nI (zd_f c a)) → wX_find_4 post fc fl fm fo bl tr mt c lc lo ml mn oA oB im k (nI a) (nI i) := by
  intro a
  induction a using Nat.strongRecOn with
  | ind a ih =>
    intro ha i k hi hk h
    obtain ⟨k', rfl⟩ : ∃ k', k = k' + 1 := ⟨k - 1, by omega⟩
    have hcl : (nI a).toNatClampNeg = a := nI_clamp (by omega)
    have hin : vp_in (nI a) 80 := vp_in_nI (by omega) (by omega)
    refine pk_le 16 i (fun z => absurd z (by omega)) (fun _ => ⟨hin, ?_⟩)
    rcases hp a ha with e | ⟨j, hj, e⟩
    · refine br_t (by rw [hcl, e]; decide) ?_
      rw [zd_root e] at h
      exact h
    · refine br_f (by rw [hcl, e]; exact nI_pos (by omega)) ⟨hin, nm_r (e' := nI j) (by rw [hcl]; exact e) (nm_r (nI_1 i) (ih j hj (by omega) (i + 1) k' (by omega) (by omega) ?_))⟩
      rw [← zd_step hn hp ha hj e]
      exact h
theorem xd_all {post : Int32 → Prop} (hn : n ≤ 16) (hp : zp_I n c) {a : Nat} (ha : a < n) (h : post (nI (zd_f c a))) : wpX_find post (fc, fl, fm, fo, bl, tr, mt, c, lc, lo, ml, mn, oA, oB, im) (nI a) := ⟨17, xd_4 hn hp a ha 0 17 (by omega) (by omega) h⟩
theorem xc_all {post : SX → Prop} {L p : Nat} {v : Int32} (hL : L < 256) (hp : p < 80) (h : post (fc, nI (L + 1), fm, fo, bl, tr, mt, upd c p v, upd lc L (nI p), upd lo L (c p), ml, mn, oA, oB, im)) : wpX_change post (fc, nI L, fm, fo, bl, tr, mt, c, lc, lo, ml, mn, oA, oB, im) (nI p) v := by
  have hiL : vp_in (nI L) 256 := vp_in_nI hL (by omega)
  have hip : vp_in (nI p) 80 := vp_in_nI hp (by omega)
  have hcL : (nI L).toNatClampNeg = L := nI_clamp (by omega)
  have hcp : (nI p).toNatClampNeg = p := nI_clamp (by omega)
  exact ⟨hiL, nm_r (e' := upd lc L (nI p)) (by rw [hcL]) ⟨hip, hiL, nm_r (e' := upd lo L (c p)) (by rw [hcL, hcp]) (nm_r (nI_1 L) ⟨hip, nm_r (e' := upd c p v) (by rw [hcp]) h⟩)⟩⟩
theorem xo_7 {post : SX → Prop} {m : Nat} : ∀ d L c k, L = m + d → d < k → L ≤ 256 → (∀ i, i < L → ∃ j, j < 80 ∧ lc i = nI j) → post (fc, nI m, fm, fo, bl, tr, mt, zu_n lc lo m L c, lc, lo, ml, mn, oA, oB, im) → wX_undoTo_7 post (nI m) fc fl fm fo k (nI L - 1) bl tr mt c lc lo ml mn oA oB im := by
  intro d
  induction d with
  | zero =>
    intro L c k hL hk h256 hl h
    obtain ⟨k', rfl⟩ : ∃ k', k = k' + 1 := ⟨k - 1, by omega⟩
    obtain rfl : L = m := by omega
    rw [zu_ge (Nat.le_refl _)] at h
    exact br_t (ba_pl (by omega)) h
  | succ d ih =>
    intro L c k hL hk h256 hl h
    obtain ⟨k', rfl⟩ : ∃ k', k = k' + 1 := ⟨k - 1, by omega⟩
    obtain ⟨L', rfl⟩ : ∃ L', L = L' + 1 := ⟨L - 1, by omega⟩
    obtain ⟨j, hj, ej⟩ := hl L' (by omega)
    have hin : vp_in (nI L') 256 := vp_in_nI (by omega) (by omega)
    have hcl : (nI L').toNatClampNeg = L' := nI_clamp (by omega)
    rw [nI_pred]
    refine br_f (nI_nlt (by omega) (by omega)) ⟨hin, hin, ?_, nm_r (e' := upd c (lc L').toNatClampNeg (lo L')) (by rw [hcl]) (nm_r (ba_nm L') ?_)⟩
    · rw [hcl, ej]
      exact vp_in_nI hj (by omega)
    · refine ih L' _ k' (by omega) (by omega) (by omega) (fun i hi => hl i (by omega)) ?_
      rw [zu_s (by omega)] at h
      exact h
theorem xo_all {post : SX → Prop} {m L : Nat} (hm : m ≤ L) (hL : L ≤ 256) (hl : ∀ i, i < L → ∃ j, j < 80 ∧ lc i = nI j) (h : post (fc, nI m, fm, fo, bl, tr, mt, zu_n lc lo m L c, lc, lo, ml, mn, oA, oB, im)) : wpX_undoTo post (fc, nI L, fm, fo, bl, tr, mt, c, lc, lo, ml, mn, oA, oB, im) (nI m) := nm_e ⟨L - m + 1, xo_7 (L - m) L c (L - m + 1) (by omega) (by omega) hL hl h⟩
theorem xt_all {post : SX → Prop} {L mc : Nat} (hm : mc < 2 ^ 31) (h : ∀ L', (L' = 0 ∧ mc = 0) ∨ (L' = L ∧ 0 < mc) → post (fc, nI L', nI mc, fo, bl, tr, mt, c, lc, lo, ml, mn, oA, oB, im)) : wpX_settle post (fc, nI L, nI mc, fo, bl, tr, mt, c, lc, lo, ml, mn, oA, oB, im) := pk_eq mc 0 (fun e => h 0 (Or.inl ⟨rfl, e⟩)) (fun e => h L (Or.inr ⟨rfl, by omega⟩))
theorem xk_all {post : SX → Prop} {op : Nat} {x y : Int32} (ho : op < 64) (h : post (fc, fl, fm, nI (op + 1), bl, tr, mt, c, lc, lo, ml, mn, upd oA op x, upd oB op y, im)) : wpX_claim post (fc, fl, fm, nI op, bl, tr, mt, c, lc, lo, ml, mn, oA, oB, im) x y := by
  have hi : vp_in (nI op) 64 := vp_in_nI ho (by omega)
  have hc : (nI op).toNatClampNeg = op := nI_clamp (by omega)
  exact ⟨hi, nm_r (e' := upd oA op x) (by rw [hc]) ⟨hi, nm_r (e' := upd oB op y) (by rw [hc]) (nm_r (nI_1 op) h)⟩⟩
theorem xn_0 {post : Int32 → Prop} {j : Nat} (hn : n ≤ 16) (hj : j < n) (h : post 0) : wpX_badNode post (nI n, fl, fm, fo, bl, tr, mt, c, lc, lo, ml, mn, oA, oB, im) (nI j) := br_f (nI_pos (by omega)) (br_t (nI_lt hj (by omega)) h)
theorem xn_1 {post : Int32 → Prop} {v : Int32} (hv : v < 0 ∨ nI n ≤ v) (h : post 1) : wpX_badNode post (nI n, fl, fm, fo, bl, tr, mt, c, lc, lo, ml, mn, oA, oB, im) v := by
  rcases hv with z | z
  · exact br_t z h
  · exact br_c (fun _ => h) (fun _ => br_f (Int32.not_lt.mpr z) h)
theorem xe_0 {post : Int32 → Prop} {f : Nat} (hf : f < 3) (h : post 0) : wpX_badFeature post (fc, fl, fm, fo, bl, tr, mt, c, lc, lo, ml, mn, oA, oB, im) (nI f) := br_f (nI_pos (by omega)) (br_t (nI_le (b := 2) (by omega) (by omega)) h)
theorem xe_1 {post : Int32 → Prop} {v : Int32} (hv : v < 0 ∨ nI 3 ≤ v) (h : post 1) : wpX_badFeature post (fc, fl, fm, fo, bl, tr, mt, c, lc, lo, ml, mn, oA, oB, im) v := by
  rcases hv with z | z
  · exact br_t z h
  · exact br_c (fun _ => h) (fun _ => br_f (fun y => absurd (Int32.le_trans z y) (by decide)) h)
theorem xv_all {post : Int32 → Prop} (hn : n ≤ 16) (hx : zx_I n c) {r f : Nat} (hr : r < n) (hf : f < 3) (h : post (zv_l c r f)) : wpX_valueOf post (fc, fl, fm, fo, bl, tr, mt, c, lc, lo, ml, mn, oA, oB, im) (nI r) (nI f) := by
  refine ⟨pk_in (32 + r * 3 + f) 80 (by omega) (ba_i3 r f), nm_r (e' := c (32 + r * 3 + f)) (by rw [ba_i3, nI_clamp (by omega)]) ?_⟩
  unfold zv_l at h
  rcases hx.2.2 r hr f hf with e | ⟨j, hj, e⟩
  · rw [e] at h ⊢
    rw [if_pos ba_m1] at h
    exact br_f (by decide) h
  · rw [e] at h ⊢
    rw [if_neg (nI_pos (by omega)), nI_clamp (by omega)] at h
    exact br_t (nI_pos' (by omega)) (xd_all hn hx.1 hj h)
def zr_1 (c : Nat → Int32) (i : Nat) : Nat := if c i < 0 then 1 else 0
theorem xl_4 {post : Int32 → Prop} (hn : n ≤ 16) (h : post (nI (zs_m (zr_1 c) n))) : ∀ d j, j + d = n → wX_classes_4 post (nI n) fl fm fo bl tr mt c lc lo ml mn oA oB im (d + 1) (nI (zs_m (zr_1 c) j)) (nI j) := by
  intro d
  induction d with
  | zero =>
    intro j hj
    obtain rfl : j = n := by omega
    exact pk_le j j (fun _ => h) (fun z => absurd z (by omega))
  | succ d ih =>
    intro j hj
    have hcl : (nI j).toNatClampNeg = j := nI_clamp (by omega)
    have hs : zs_m (zr_1 c) (j + 1) = zs_m (zr_1 c) j + zr_1 c j := rfl
    have hi := ih (j + 1) (by omega)
    refine pk_le n j (fun z => absurd z (by omega)) (fun _ => ⟨vp_in_nI (by omega) (by omega), ?_⟩)
    by_cases z : c j < 0
    · rw [hs, show zr_1 c j = 1 from if_pos z] at hi
      exact br_f (by rw [hcl]; exact ba_gn z) (nm_r (nI_1 _) (nm_r (nI_1 j) hi))
    · rw [hs, show zr_1 c j = 0 from if_neg z] at hi
      exact br_t (by rw [hcl]; exact ba_ng z) (nm_r (nI_1 j) hi)
theorem xl_all {post : Int32 → Prop} (hn : n ≤ 16) (h : post (nI (zs_m (zr_1 c) n))) : wpX_classes post (nI n, fl, fm, fo, bl, tr, mt, c, lc, lo, ml, mn, oA, oB, im) := ⟨n + 1, xl_4 hn h n 0 (by omega)⟩
theorem xw_46 {post : Int32 → SX → Prop} {t : Nat} {c0 : Nat → Int32} (hn : n < 16) (hK : ∀ c, zn_A n c0 c → c n = -1 → c (16 + n) = nI t → (∀ f, f < 3 → c (32 + n * 3 + f) = -1) → post (nI n) (nI (n + 1), fl, fm, fo, bl, tr, mt, c, lc, lo, ml, mn, oA, oB, im)) : ∀ d f c, f + d = 3 → zn_A n c0 c → c n = -1 → c (16 + n) = nI t → (∀ g, g < f → c (32 + n * 3 + g) = -1) → wX_node_46 post (nI n) (nI n) fl fm fo (d + 1) (nI f) bl tr mt c lc lo ml mn oA oB im := by
  intro d
  induction d with
  | zero =>
    intro f c hf h1 h2 h3 h4
    exact pk_le 3 f (fun _ => nm_r (nI_1 n) (hK c h1 h2 h3 (fun g hg => h4 g (by omega)))) (fun z => absurd z (by omega))
  | succ d ih =>
    intro f c hf h1 h2 h3 h4
    refine pk_le 3 f (fun z => absurd z (by omega)) (fun _ => ⟨pk_in (32 + n * 3 + f) 80 (by omega) (ba_i3 n f), nm_r (e' := upd c (32 + n * 3 + f) (-1)) (by rw [ba_i3, nI_clamp (by omega)]) (nm_r (nI_1 f) (ih (f + 1) _ (by omega) ?_ ?_ ?_ ?_))⟩)
    · intro i hi
      rw [pk_un (by omega), pk_un (by omega)]
      refine ⟨(h1 i hi).1, (h1 i hi).2.1, fun g hg => ?_⟩
      rw [pk_un (by omega)]
      exact (h1 i hi).2.2 g hg
    · rw [pk_un (by omega)]
      exact h2
    · rw [pk_un (by omega)]
      exact h3
    · intro g hg
      by_cases e : g = f
      · rw [e]
        exact pk_us
      · rw [pk_un (by omega)]
        exact h4 g (by omega)
theorem xw_all {post : Int32 → SX → Prop} {t : Nat} (hn : n < 16) (ht : t < 8) (hK : ∀ c', zn_A n c c' → c' n = -1 → c' (16 + n) = nI t → (∀ f, f < 3 → c' (32 + n * 3 + f) = -1) → post (nI n) (nI (n + 1), fl, fm, fo, bl, tr, mt, c', lc, lo, ml, mn, oA, oB, im)) : wpX_node post (nI n, fl, fm, fo, bl, tr, mt, c, lc, lo, ml, mn, oA, oB, im) (nI t) := by
  unfold wpX_node
  refine xb_0 ht ?_
  refine br_t rfl (pk_eq n 16 (fun z => absurd z (by omega)) (fun _ => ⟨vp_in_nI (by omega) (by omega), nm_r (e' := upd c n (-1)) (by rw [nI_clamp (by omega)]) ⟨pk_in (16 + n) 80 (by omega) (ba_16 n), nm_r (e' := upd (upd c n (-1)) (16 + n) (nI t)) (by rw [ba_16, nI_clamp (by omega)]) ⟨4, ?_⟩⟩⟩))
  refine xw_46 (c0 := c) hn hK 3 0 _ rfl ?_ ?_ ?_ (fun g hg => absurd hg (by omega))
  · intro i hi
    rw [pk_un (by omega), pk_un (by omega), pk_un (by omega), pk_un (by omega)]
    refine ⟨rfl, rfl, fun f hf => ?_⟩
    rw [pk_un (by omega), pk_un (by omega)]
  · rw [pk_un (by omega), pk_us]
  · rw [pk_us]
end
section
variable {gc gm : Int32} {bl cs ty va fr ig pe ke : Nat → Int32} {n : Nat}
theorem yn_1 {post : Int32 → Prop} {j : Nat} (hn : n ≤ 16) (hj : j < n) (h : post 1) : wpY_isNode post (nI n, gm, bl, cs, ty, va, fr, ig, pe, ke) (nI j) := br_f (nI_pos (by omega)) (br_f (nI_ge hj (by omega)) h)
theorem yn_0 {post : Int32 → Prop} {v : Int32} (hv : v < 0 ∨ nI n ≤ v) (h : post 0) : wpY_isNode post (nI n, gm, bl, cs, ty, va, fr, ig, pe, ke) v := by
  rcases hv with z | z
  · exact br_t z h
  · exact br_c (fun _ => h) (fun _ => br_t z h)
def zr_2 (cs : Nat → Int32) (i : Nat) : Nat := if cs i = nI i then 1 else 0
theorem yl_4 {post : Int32 → Prop} (hn : n ≤ 16) (h : post (nI (zs_m (zr_2 cs) n))) : ∀ d j, j + d = n → wY_classes_4 post (nI n) gm bl cs ty va fr ig pe ke (d + 1) (nI (zs_m (zr_2 cs) j)) (nI j) := by
  intro d
  induction d with
  | zero =>
    intro j hj
    obtain rfl : j = n := by omega
    exact pk_le j j (fun _ => h) (fun z => absurd z (by omega))
  | succ d ih =>
    intro j hj
    have hcl : (nI j).toNatClampNeg = j := nI_clamp (by omega)
    have hs : zs_m (zr_2 cs) (j + 1) = zs_m (zr_2 cs) j + zr_2 cs j := rfl
    have hi := ih (j + 1) (by omega)
    refine pk_le n j (fun z => absurd z (by omega)) (fun _ => ⟨vp_in_nI (by omega) (by omega), ?_⟩)
    by_cases z : cs j = nI j
    · rw [hs, show zr_2 cs j = 1 from if_pos z] at hi
      exact br_t (by rw [hcl]; exact z) (nm_r (nI_1 _) (nm_r (nI_1 j) hi))
    · rw [hs, show zr_2 cs j = 0 from if_neg z] at hi
      exact br_f (by rw [hcl]; exact z) (nm_r (nI_1 j) hi)
theorem yl_all {post : Int32 → Prop} (hn : n ≤ 16) (h : post (nI (zs_m (zr_2 cs) n))) : wpY_classes post (nI n, gm, bl, cs, ty, va, fr, ig, pe, ke) := ⟨n + 1, yl_4 hn h n 0 (by omega)⟩
end
end
section
/-! ===== making nodes one: pure laws ===== -/
/-- g is a congruence of the nodes c0 in which x0 and y0 are one -/
def zg_G (n : Nat) (c0 : Nat → Int32) (x0 y0 : Nat) (g : Nat → Nat) : Prop := (∀ i, i < n → g i = g (zd_f c0 i)) ∧ g x0 = g y0 ∧ (∀ p, p < n → ∀ q, q < n → c0 p = -1 → c0 q = -1 → g p = g q → ∀ f, f < 3 → ¬ c0 (32 + p * 3 + f) < 0 → ¬ c0 (32 + q * 3 + f) < 0 → g (c0 (32 + p * 3 + f)).toNatClampNeg = g (c0 (32 + q * 3 + f)).toNatClampNeg)
/-- the type of the old node that p belongs to -/
def zt_0 (c0 : Nat → Int32) (p : Nat) : Nat := (c0 (16 + zd_f c0 p)).toNatClampNeg
def zi_B2 (n : Nat) (c0 : Nat → Int32) (x0 y0 : Nat) (c : Nat → Int32) : Prop := ∀ g, zg_G n c0 x0 y0 g → ∀ i, i < n → g i = g (zd_f c i)
def zi_C (n : Nat) (c0 : Nat → Int32) (x0 y0 op : Nat) (oA oB : Nat → Int32) : Prop := ∀ k, k < op → ∃ x y, x < n ∧ y < n ∧ oA k = nI x ∧ oB k = nI y ∧ ∀ g, zg_G n c0 x0 y0 g → g x = g y
def zi_V (n : Nat) (c0 c : Nat → Int32) (g : Nat → Nat) : Prop := ∀ p, p < n → c0 p = -1 → ∀ f, f < 3 → ¬ c0 (32 + p * 3 + f) < 0 → ¬ c (32 + zd_f c p * 3 + f) < 0 ∧ g (c0 (32 + p * 3 + f)).toNatClampNeg = g (c (32 + zd_f c p * 3 + f)).toNatClampNeg
def zi_D (n : Nat) (c0 : Nat → Int32) (x0 y0 : Nat) (c : Nat → Int32) (op : Nat) (oA oB : Nat → Int32) : Prop := ∀ g : Nat → Nat, (∀ i, i < n → g i = g (zd_f c i)) → (∀ k, k < op → g (oA k).toNatClampNeg = g (oB k).toNatClampNeg) → g x0 = g y0 ∧ zi_V n c0 c g
def zi_E (n : Nat) (c0 c : Nat → Int32) : Prop := ∀ r, r < n → c r = -1 → ∀ f, f < 3 → ¬ c (32 + r * 3 + f) < 0 → ∃ p, p < n ∧ c0 p = -1 ∧ zd_f c p = r ∧ c0 (32 + p * 3 + f) = c (32 + r * 3 + f)
def zi_F (n : Nat) (bl c0 c : Nat → Int32) : Prop := ∀ r, r < n → c r = -1 → ∀ s, s < 8 → (bt (bl (c (16 + r)).toNatClampNeg) s = true ↔ ∀ p, p < n → zd_f c p = r → bt (bl (zt_0 c0 p)) s = true)
def zi_K (n : Nat) (c0 c : Nat → Int32) : Prop := ∀ i, i < n → zd_f c i = zd_f c (zd_f c0 i)
def zm_I (n : Nat) (bl c0 : Nat → Int32) (x0 y0 : Nat) (c : Nat → Int32) (op : Nat) (oA oB : Nat → Int32) : Prop := zx_I n c ∧ zi_B2 n c0 x0 y0 c ∧ zi_C n c0 x0 y0 op oA oB ∧ zi_D n c0 x0 y0 c op oA oB ∧ zi_E n c0 c ∧ zi_F n bl c0 c ∧ zi_K n c0 c
/-- what a link does to the cells -/
def zk_L (kp gn m : Nat) (c c' : Nat → Int32) : Prop := c' gn = nI kp ∧ c' (16 + kp) = nI m ∧ (∀ f, f < 3 → c' (32 + kp * 3 + f) = if c (32 + kp * 3 + f) < 0 then c (32 + gn * 3 + f) else c (32 + kp * 3 + f)) ∧ (∀ j, j ≠ gn → j ≠ 16 + kp → (∀ f, f < 3 → j ≠ 32 + kp * 3 + f) → c' j = c j)
/-- what a link claims: u and w are the values of the two -/
def zj_O (u w : Nat → Int32) (op0 : Nat) (oA0 oB0 : Nat → Int32) (f op : Nat) (oA oB : Nat → Int32) : Prop := op0 ≤ op ∧ op ≤ op0 + f ∧ (∀ k, k < op0 → oA k = oA0 k ∧ oB k = oB0 k) ∧ (∀ k, op0 ≤ k → k < op → ∃ g, g < f ∧ ¬ u g < 0 ∧ ¬ w g < 0 ∧ oA k = u g ∧ oB k = w g) ∧ (∀ g, g < f → ¬ u g < 0 → ¬ w g < 0 → ∃ k, op0 ≤ k ∧ k < op ∧ oA k = u g ∧ oB k = w g)
theorem zj_0 (u w : Nat → Int32) (op : Nat) (oA oB : Nat → Int32) : zj_O u w op oA oB 0 op oA oB :=
  ⟨Nat.le_refl _, Nat.le_refl _, fun _ _ => ⟨rfl, rfl⟩, fun k h1 h2 => absurd h2 (by omega), fun g h => absurd h (by omega)⟩
theorem zj_skip {u w : Nat → Int32} {op0 : Nat} {oA0 oB0 : Nat → Int32} {f op : Nat} {oA oB : Nat → Int32} (h : zj_O u w op0 oA0 oB0 f op oA oB) (hs : ¬ (¬ u f < 0 ∧ ¬ w f < 0)) : zj_O u w op0 oA0 oB0 (f + 1) op oA oB := by
  obtain ⟨h1, h2, h3, h4, h5⟩ := h
  refine ⟨h1, by omega, h3, fun k a b => ?_, fun g hg hu hw => ?_⟩
  · obtain ⟨g, hg, z⟩ := h4 k a b
    exact ⟨g, by omega, z⟩
  · by_cases e : g = f
    · subst e
      exact absurd ⟨hu, hw⟩ hs
    · exact h5 g (by omega) hu hw
theorem zj_push {u w : Nat → Int32} {op0 : Nat} {oA0 oB0 : Nat → Int32} {f op : Nat} {oA oB : Nat → Int32} (h : zj_O u w op0 oA0 oB0 f op oA oB) (hu : ¬ u f < 0) (hw : ¬ w f < 0) : zj_O u w op0 oA0 oB0 (f + 1) (op + 1) (upd oA op (u f)) (upd oB op (w f)) := by
  obtain ⟨h1, h2, h3, h4, h5⟩ := h
  refine ⟨by omega, by omega, fun k hk => ?_, fun k a b => ?_, fun g hg gu gw => ?_⟩
  · rw [pk_un (by omega), pk_un (by omega)]
    exact h3 k hk
  · by_cases e : k = op
    · subst e
      exact ⟨f, by omega, hu, hw, pk_us, pk_us⟩
    · rw [pk_un e, pk_un e]
      obtain ⟨g, hg, z⟩ := h4 k a (by omega)
      exact ⟨g, by omega, z⟩
  · by_cases e : g = f
    · subst e
      exact ⟨op, h1, by omega, pk_us, pk_us⟩
    · obtain ⟨k, a, b, z⟩ := h5 g (by omega) gu gw
      refine ⟨k, a, by omega, ?_⟩
      rw [pk_un (by omega), pk_un (by omega)]
      exact z
section
variable {n : Nat} {bl c0 c c' : Nat → Int32} {x0 y0 op op' : Nat} {oA oB oA' oB' : Nat → Int32}
theorem zm_0 (hn : n ≤ 16) (hx : zx_I n c0) (h1 : x0 < n) (h2 : y0 < n) (hA : oA 0 = nI x0) (hB : oB 0 = nI y0) : zm_I n bl c0 x0 y0 c0 1 oA oB := by
  refine ⟨hx, fun g G => G.1, fun k hk => ?_, fun g hg hp => ⟨?_, fun p hp e f hf hv => ?_⟩, fun r hr e f hf hv => ⟨r, hr, e, zd_root e, rfl⟩, fun r hr e s hs => ⟨fun z p hp ep => ?_, fun z => ?_⟩, fun i hi => (zd_idem hn hx.1 hi).symm⟩
  · obtain rfl : k = 0 := by omega
    exact ⟨x0, y0, h1, h2, hA, hB, fun g G => G.2.1⟩
  · have := hp 0 (by omega)
    rw [hA, hB, nI_clamp (by omega), nI_clamp (by omega)] at this
    exact this
  · rw [zd_root e]
    exact ⟨hv, rfl⟩
  · unfold zt_0
    rw [ep]
    exact z
  · have := z r hr (zd_root e)
    unfold zt_0 at this
    rw [zd_root e] at this
    exact this
theorem zm_pop (hI : zm_I n bl c0 x0 y0 c (op + 1) oA oB) {x y : Nat} (hn : n ≤ 16) (h1 : x < n) (h2 : y < n) (hA : oA op = nI x) (hB : oB op = nI y) (he : zd_f c x = zd_f c y) : zm_I n bl c0 x0 y0 c op oA oB := by
  obtain ⟨a1, a2, a3, a4, a5, a6, a7⟩ := hI
  refine ⟨a1, a2, fun k hk => a3 k (by omega), fun g hg hp => a4 g hg (fun k hk => ?_), a5, a6, a7⟩
  by_cases e : k = op
  · subst e
    rw [hA, hB, nI_clamp (by omega), nI_clamp (by omega), hg x h1, hg y h2, he]
  · exact hp k (by omega)
theorem zk_par (hn : n ≤ 16) {kp gn m : Nat} (hk : kp < gn) (hl : zk_L kp gn m c c') : ∀ i, i < n → i ≠ gn → c' i = c i := fun i hi e => hl.2.2.2 i e (by omega) (fun f hf => by omega)
theorem zk_oth (hn : n ≤ 16) {kp gn m : Nat} (hk : kp < gn) (hg : gn < n) (hl : zk_L kp gn m c c') {i : Nat} (hi : i < n) (e : i ≠ kp) : c' (16 + i) = c (16 + i) ∧ ∀ f, f < 3 → c' (32 + i * 3 + f) = c (32 + i * 3 + f) := ⟨hl.2.2.2 _ (by omega) (by omega) (fun f hf => by omega), fun f hf => hl.2.2.2 _ (by omega) (by omega) (fun g hg => by omega)⟩
theorem zk_x (hn : n ≤ 16) {kp gn m : Nat} (hk : kp < gn) (hg : gn < n) (hm : m < 8) (hl : zk_L kp gn m c c') (hx : zx_I n c) : zx_I n c' := by
  refine ⟨zp_link hx.1 hk hl.1 (zk_par hn hk hl), fun i hi => ?_, fun i hi f hf => ?_⟩
  · by_cases e : i = kp
    · rw [e]
      exact ⟨m, hm, hl.2.1⟩
    · rw [(zk_oth hn hk hg hl hi e).1]
      exact hx.2.1 i hi
  · by_cases e : i = kp
    · rw [e, hl.2.2.1 f hf]
      split
      · exact hx.2.2 gn hg f hf
      · exact hx.2.2 kp (by omega) f hf
    · rw [(zk_oth hn hk hg hl hi e).2 f hf]
      exact hx.2.2 i hi f hf
/-- a link keeps the invariant -/
theorem zm_link (hI : zm_I n bl c0 x0 y0 c (op + 1) oA oB) (hx0 : zx_I n c0) {x y kp gn m : Nat} (hn : n ≤ 16) (h1 : x < n) (h2 : y < n) (hA : oA op = nI x) (hB : oB op = nI y) (hk : kp < gn) (hg : gn < n) (he : (zd_f c x = kp ∧ zd_f c y = gn) ∨ (zd_f c x = gn ∧ zd_f c y = kp)) (hm : m < 8) (ht : ∀ s, s < 8 → (bt (bl m) s = true ↔ bt (bl (c (16 + kp)).toNatClampNeg) s = true ∧ bt (bl (c (16 + gn)).toNatClampNeg) s = true)) (hl : zk_L kp gn m c c') (hO : zj_O (fun f => c (32 + kp * 3 + f)) (fun f => c (32 + gn * 3 + f)) op oA oB 3 op' oA' oB') : zm_I n bl c0 x0 y0 c' op' oA' oB' := by
  obtain ⟨a1, a2, a3, a4, a5, a6, a7⟩ := hI
  have rk : c kp = -1 := by
    rcases he with z | z
    · rw [← z.1]; exact zd_isr hn a1.1 x h1
    · rw [← z.2]; exact zd_isr hn a1.1 y h2
  have rg : c gn = -1 := by
    rcases he with z | z
    · rw [← z.2]; exact zd_isr hn a1.1 y h2
    · rw [← z.1]; exact zd_isr hn a1.1 x h1
  have fdl : ∀ a, a < n → zd_f c' a = if zd_f c a = gn then kp else zd_f c a := zd_link hn a1.1 hk hg rk rg hl.1 (zk_par hn hk hl)
  have hx' : zx_I n c' := zk_x hn hk hg hm hl a1
  -- a function that respects the old ones and the popped pair makes kp and gn one
  have gkg : ∀ g : Nat → Nat, (∀ i, i < n → g i = g (zd_f c i)) → g x = g y → g kp = g gn := by
    intro g hg1 hg2
    have q1 := hg1 x h1
    have q2 := hg1 y h2
    rcases he with z | z
    · rw [z.1] at q1; rw [z.2] at q2; rw [← q1, ← q2, hg2]
    · rw [z.1] at q1; rw [z.2] at q2; rw [← q1, ← q2, hg2]
  obtain ⟨xx, yy, _, _, exx, eyy, pairg⟩ := a3 op (by omega)
  have pg : ∀ g, zg_G n c0 x0 y0 g → g x = g y := by
    intro g G
    have h := pairg g G
    have e1 : xx = x := (nI_eq (by omega) (by omega)).mp (exx.symm.trans hA)
    have e2 : yy = y := (nI_eq (by omega) (by omega)).mp (eyy.symm.trans hB)
    rw [e1, e2] at h
    exact h
  have B' : zi_B2 n c0 x0 y0 c' := by
    intro g G i hi
    have q := a2 g G i hi
    rw [fdl i hi]
    by_cases z : zd_f c i = gn
    · rw [if_pos z, gkg g (a2 g G) (pg g G), ← z]
      exact q
    · rw [if_neg z]
      exact q
  have nr : ∀ r, r < n → c' r = -1 → r ≠ gn := by
    intro r hr e z
    rw [z, hl.1] at e
    exact ba_n1 (by omega) e
  refine ⟨hx', B', ?_, ?_, ?_, ?_, ?_⟩
  · -- pending pairs
    intro k hk2
    by_cases z : k < op
    · rw [(hO.2.2.1 k z).1, (hO.2.2.1 k z).2]
      exact a3 k (by omega)
    · obtain ⟨f, hf, hu, hw, eA, eB⟩ := hO.2.2.2.1 k (by omega) hk2
      dsimp only at hu hw eA eB
      obtain ⟨p, hp, rp, fp, vp⟩ := a5 kp (by omega) rk f hf hu
      obtain ⟨q, hq, rq, fq, vq⟩ := a5 gn hg rg f hf hw
      rcases a1.2.2 kp (by omega) f hf with w1 | ⟨j1, hj1, w1⟩
      · exact absurd ba_m1 (by rw [w1] at hu; exact hu)
      rcases a1.2.2 gn hg f hf with w2 | ⟨j2, hj2, w2⟩
      · exact absurd ba_m1 (by rw [w2] at hw; exact hw)
      refine ⟨j1, j2, hj1, hj2, eA.trans w1, eB.trans w2, fun g G => ?_⟩
      have gg := gkg g (a2 g G) (pg g G)
      have q1 := a2 g G p hp
      have q2 := a2 g G q hq
      rw [fp] at q1
      rw [fq] at q2
      have r := G.2.2 p hp q hq rp rq (by rw [q1, q2, gg]) f hf (by rw [vp]; exact hu) (by rw [vq]; exact hw)
      rw [vp, vq, w1, w2, nI_clamp (by omega), nI_clamp (by omega)] at r
      exact r
  · -- closed modulo the pending pairs
    intro g hg1 hp1
    have R : ∀ i, i < n → g i = g (zd_f c i) := by
      intro i hi
      have hli := zd_lt hn a1.1 hi
      have q1 := hg1 i hi
      have q2 := hg1 (zd_f c i) hli
      rw [fdl i hi] at q1
      rw [fdl (zd_f c i) hli, zd_idem hn a1.1 hi] at q2
      rw [q1, q2]
    have gxy : g x = g y := by
      have q1 := hg1 x h1
      have q2 := hg1 y h2
      rw [fdl x h1] at q1
      rw [fdl y h2] at q2
      rcases he with z | z
      · rw [z.1, if_neg (by omega)] at q1
        rw [z.2, if_pos rfl] at q2
        rw [q1, q2]
      · rw [z.1, if_pos rfl] at q1
        rw [z.2, if_neg (by omega)] at q2
        rw [q1, q2]
    have P : ∀ k, k < op + 1 → g (oA k).toNatClampNeg = g (oB k).toNatClampNeg := by
      intro k hk2
      by_cases z : k = op
      · subst z
        rw [hA, hB, nI_clamp (by omega), nI_clamp (by omega)]
        exact gxy
      · have := hp1 k (by have := hO.1; omega)
        rw [(hO.2.2.1 k (by omega)).1, (hO.2.2.1 k (by omega)).2] at this
        exact this
    obtain ⟨q0, qV⟩ := a4 g R P
    refine ⟨q0, fun p hp rp f hf hv => ?_⟩
    obtain ⟨v1, v2⟩ := qV p hp rp f hf hv
    rw [fdl p hp]
    by_cases z : zd_f c p = gn
    · rw [if_pos z, hl.2.2.1 f hf]
      rw [z] at v1 v2
      by_cases y1 : c (32 + kp * 3 + f) < 0
      · rw [if_pos y1]
        exact ⟨v1, v2⟩
      · rw [if_neg y1]
        refine ⟨y1, v2.trans ?_⟩
        obtain ⟨k, ka, kb, eA, eB⟩ := hO.2.2.2.2 f hf y1 v1
        have := hp1 k kb
        rw [eA, eB] at this
        exact this.symm
    · rw [if_neg z]
      by_cases z2 : zd_f c p = kp
      · rw [z2] at v1 v2 ⊢
        rw [hl.2.2.1 f hf, if_neg v1]
        exact ⟨v1, v2⟩
      · rw [(zk_oth hn hk hg hl (zd_lt hn a1.1 hp) z2).2 f hf]
        exact ⟨v1, v2⟩
  · -- each value comes from an old node
    intro r hr er f hf hv
    have hrg := nr r hr er
    by_cases z : r = kp
    · subst z
      rw [hl.2.2.1 f hf] at hv ⊢
      by_cases y1 : c (32 + r * 3 + f) < 0
      · rw [if_pos y1] at hv ⊢
        obtain ⟨p, hp, rp, fp, vp⟩ := a5 gn hg rg f hf hv
        exact ⟨p, hp, rp, by rw [fdl p hp, if_pos fp], vp⟩
      · rw [if_neg y1] at hv ⊢
        obtain ⟨p, hp, rp, fp, vp⟩ := a5 r hr rk f hf hv
        exact ⟨p, hp, rp, by rw [fdl p hp, if_neg (by omega)]; exact fp, vp⟩
    · rw [(zk_oth hn hk hg hl hr z).2 f hf] at hv ⊢
      obtain ⟨p, hp, rp, fp, vp⟩ := a5 r hr ((zk_par hn hk hl r hr hrg).symm.trans er) f hf hv
      exact ⟨p, hp, rp, by rw [fdl p hp, if_neg (by omega)]; exact fp, vp⟩
  · -- types
    intro r hr er s hs
    have hrg := nr r hr er
    by_cases z : r = kp
    · subst z
      rw [hl.2.1, nI_clamp (by omega), ht s hs, a6 r hr rk s hs, a6 gn hg rg s hs]
      constructor
      · intro w p hp fp
        rw [fdl p hp] at fp
        by_cases y1 : zd_f c p = gn
        · exact w.2 p hp y1
        · rw [if_neg y1] at fp
          exact w.1 p hp fp
      · intro w
        refine ⟨fun p hp fp => w p hp ?_, fun p hp fp => w p hp ?_⟩
        · rw [fdl p hp, if_neg (by omega)]
          exact fp
        · rw [fdl p hp, if_pos fp]
    · rw [(zk_oth hn hk hg hl hr z).1, a6 r hr ((zk_par hn hk hl r hr hrg).symm.trans er) s hs]
      constructor
      · intro w p hp fp
        rw [fdl p hp] at fp
        by_cases y1 : zd_f c p = gn
        · rw [if_pos y1] at fp
          exact absurd fp.symm z
        · rw [if_neg y1] at fp
          exact w p hp fp
      · intro w p hp fp
        exact w p hp (by rw [fdl p hp, if_neg (by omega)]; exact fp)
  · intro i hi
    rw [fdl i hi, fdl (zd_f c0 i) (zd_lt hn hx0.1 hi), ← a7 i hi]
/-- at the end: the least congruence -/
theorem zm_end (hI : zm_I n bl c0 x0 y0 c 0 oA oB) (hn : n ≤ 16) : zg_G n c0 x0 y0 (zd_f c) ∧ zi_V n c0 c (zd_f c) := by
  obtain ⟨a1, a2, a3, a4, a5, a6, a7⟩ := hI
  obtain ⟨q0, qV⟩ := a4 (zd_f c) (fun i hi => (zd_idem hn a1.1 hi).symm) (fun k hk => absurd hk (by omega))
  refine ⟨⟨a7, q0, fun p hp q hq rp rq e f hf hv hw => ?_⟩, qV⟩
  rw [(qV p hp rp f hf hv).2, (qV q hq rq f hf hw).2, e]
/-- no type for what must be one -/
def zm_F (n : Nat) (bl c0 : Nat → Int32) (x0 y0 : Nat) : Prop := ∃ i, i < n ∧ ∀ g, zg_G n c0 x0 y0 g → ∀ s, s < 8 → ∃ p, p < n ∧ g p = g i ∧ ¬ bt (bl (zt_0 c0 p)) s = true
theorem zm_fail (hI : zm_I n bl c0 x0 y0 c (op + 1) oA oB) {x y : Nat} (hn : n ≤ 16) (h1 : x < n) (h2 : y < n) (hA : oA op = nI x) (hB : oB op = nI y) (ht : ∀ s, s < 8 → ¬ (bt (bl (c (16 + zd_f c x)).toNatClampNeg) s = true ∧ bt (bl (c (16 + zd_f c y)).toNatClampNeg) s = true)) : zm_F n bl c0 x0 y0 := by
  obtain ⟨a1, a2, a3, a4, a5, a6, a7⟩ := hI
  refine ⟨x, h1, fun g G s hs => ?_⟩
  obtain ⟨xx, yy, _, _, exx, eyy, pairg⟩ := a3 op (by omega)
  have h := pairg g G
  have e1 : xx = x := (nI_eq (by omega) (by omega)).mp (exx.symm.trans hA)
  have e2 : yy = y := (nI_eq (by omega) (by omega)).mp (eyy.symm.trans hB)
  rw [e1, e2] at h
  have f1 := a6 _ (zd_lt hn a1.1 h1) (zd_isr hn a1.1 x h1) s hs
  have f2 := a6 _ (zd_lt hn a1.1 h2) (zd_isr hn a1.1 y h2) s hs
  have h3 := ht s hs
  rw [f1, f2] at h3
  refine Classical.byContradiction (fun no => h3 ⟨fun p hp fp => ?_, fun p hp fp => ?_⟩)
  · refine Classical.byContradiction (fun z => no ⟨p, hp, ?_, z⟩)
    rw [a2 g G p hp, fp, ← a2 g G x h1]
  · refine Classical.byContradiction (fun z => no ⟨p, hp, ?_, z⟩)
    rw [a2 g G p hp, fp, ← a2 g G y h2, h]
end
/-- a step of the log -/
def zl_G (L : Nat) (c lc lo : Nat → Int32) (L' : Nat) (c' lc' lo' : Nat → Int32) : Prop := L ≤ L' ∧ (∀ m, m ≤ L → zu_n lc' lo' m L' c' = zu_n lc lo m L c) ∧ (∀ k, k < L' → ∃ j, j < 80 ∧ lc' k = nI j)
theorem zl_refl {L : Nat} {c lc lo : Nat → Int32} (h : ∀ k, k < L → ∃ j, j < 80 ∧ lc k = nI j) : zl_G L c lc lo L c lc lo := ⟨Nat.le_refl _, fun _ _ => rfl, h⟩
theorem zl_chg {L : Nat} {c lc lo : Nat → Int32} {L' : Nat} {c' lc' lo' : Nat → Int32} (h : zl_G L c lc lo L' c' lc' lo') {p : Nat} {v : Int32} (hp : p < 80) : zl_G L c lc lo (L' + 1) (upd c' p v) (upd lc' L' (nI p)) (upd lo' L' (c' p)) := by
  obtain ⟨h1, h2, h3⟩ := h
  refine ⟨by omega, fun m hm => ?_, fun k hk => ?_⟩
  · rw [zu_chg (by omega) (by omega)]
    exact h2 m hm
  · by_cases e : k = L'
    · subst e
      exact ⟨p, hp, pk_us⟩
    · rw [pk_un e]
      exact h3 k (by omega)
/-- the room that a link takes -/
def zk_d (c : Nat → Int32) (kp gn f : Nat) : Nat := if c (32 + kp * 3 + f) < 0 then (if c (32 + gn * 3 + f) < 0 then 0 else 1) else 0
theorem zk_q {n : Nat} {c c' : Nat → Int32} (hn : n ≤ 16) {kp gn m : Nat} (hk : kp < gn) (hg : gn < n) (rk : c kp = -1) (rg : c gn = -1) (hl : zk_L kp gn m c c') : zq_P n c' = zq_P n c + 2 + zs_m (zk_d c kp gn) 3 := by
  have a1 : zs_m (zq_1 (upd c gn (nI kp))) n = zs_m (zq_1 c) n + 2 := by
    refine sm_bump (k := gn) n hg (fun i hi e => ?_) ?_
    · unfold zq_1
      rw [pk_un e, pk_un (by omega), pk_un (by omega), pk_un (by omega)]
    · unfold zq_1
      rw [pk_us, pk_un (by omega), pk_un (by omega), pk_un (by omega), rg, if_neg (nI_pos (by omega)), if_pos ba_m1]
      omega
  have a2 : zs_m (zq_1 c') n = zs_m (zq_1 (upd c gn (nI kp))) n + zs_m (zk_d c kp gn) 3 := by
    refine sm_bump (k := kp) n (by omega) (fun i hi e => ?_) ?_
    · have o := zk_oth hn hk hg hl hi e
      unfold zq_1
      rw [o.2 0 (by omega), o.2 1 (by omega), o.2 2 (by omega), pk_un (k := gn) (j := 32 + i * 3 + 0) (by omega), pk_un (k := gn) (j := 32 + i * 3 + 1) (by omega), pk_un (k := gn) (j := 32 + i * 3 + 2) (by omega)]
      by_cases z : i = gn
      · subst z
        rw [hl.1, pk_us]
      · rw [zk_par hn hk hl i hi z, pk_un z]
    · have s3 : zs_m (zk_d c kp gn) 3 = zk_d c kp gn 0 + zk_d c kp gn 1 + zk_d c kp gn 2 := by
        show 0 + zk_d c kp gn 0 + zk_d c kp gn 1 + zk_d c kp gn 2 = _
        omega
      have one : ∀ f, f < 3 → (if c' (32 + kp * 3 + f) < 0 then 0 else 1) = (if c (32 + kp * 3 + f) < 0 then 0 else 1) + zk_d c kp gn f := by
        intro f hf
        rw [hl.2.2.1 f hf]
        unfold zk_d
        by_cases z : c (32 + kp * 3 + f) < 0
        · rw [if_pos z, if_pos z, if_pos z]
          omega
        · rw [if_neg z, if_neg z, if_neg z]
      unfold zq_1
      rw [s3, one 0 (by omega), one 1 (by omega), one 2 (by omega), zk_par hn hk hl kp (by omega) (by omega), pk_un (k := gn) (j := kp) (by omega), pk_un (k := gn) (j := 32 + kp * 3 + 0) (by omega), pk_un (k := gn) (j := 32 + kp * 3 + 1) (by omega), pk_un (k := gn) (j := 32 + kp * 3 + 2) (by omega)]
      omega
  unfold zq_P
  omega
theorem zk_r {n : Nat} {c c' : Nat → Int32} (hn : n ≤ 16) {kp gn m : Nat} (hk : kp < gn) (hg : gn < n) (rg : c gn = -1) (hl : zk_L kp gn m c c') : zs_m (zr_1 c) n = zs_m (zr_1 c') n + 1 := by
  refine sm_bump (k := gn) n hg (fun i hi e => ?_) ?_
  · unfold zr_1
    rw [zk_par hn hk hl i hi e]
  · unfold zr_1
    rw [rg, hl.1, if_pos ba_m1, if_neg (nI_pos (by omega))]
end
section
/-! ===== making nodes one: the component's walk ===== -/
/-- the link's loop at feature f -/
def zj_J (kp gn : Nat) (c2 : Nat → Int32) (L2 op0 : Nat) (oA0 oB0 : Nat → Int32) (Lb : Nat) (cb lcb lob : Nat → Int32) (f : Nat) (c : Nat → Int32) (L : Nat) (lc lo : Nat → Int32) (op : Nat) (oA oB : Nat → Int32) : Prop :=
  (∀ g, g < f → c (32 + kp * 3 + g) = if c2 (32 + kp * 3 + g) < 0 then c2 (32 + gn * 3 + g) else c2 (32 + kp * 3 + g)) ∧ (∀ j, (∀ g, g < f → j ≠ 32 + kp * 3 + g) → c j = c2 j) ∧ zj_O (fun f => c2 (32 + kp * 3 + f)) (fun f => c2 (32 + gn * 3 + f)) op0 oA0 oB0 f op oA oB ∧ L = L2 + zs_m (zk_d c2 kp gn) f ∧ zl_G Lb cb lcb lob L c lc lo
theorem zj_Jskip {kp gn : Nat} {c2 : Nat → Int32} {L2 op0 : Nat} {oA0 oB0 : Nat → Int32} {Lb : Nat} {cb lcb lob : Nat → Int32} {f : Nat} {c : Nat → Int32} {L : Nat} {lc lo : Nat → Int32} {op : Nat} {oA oB : Nat → Int32} (h : zj_J kp gn c2 L2 op0 oA0 oB0 Lb cb lcb lob f c L lc lo op oA oB) (hw : c2 (32 + gn * 3 + f) < 0) (hs : c2 (32 + kp * 3 + f) < 0 → c2 (32 + kp * 3 + f) = c2 (32 + gn * 3 + f)) : zj_J kp gn c2 L2 op0 oA0 oB0 Lb cb lcb lob (f + 1) c L lc lo op oA oB := by
  obtain ⟨h1, h2, h3, h4, h5⟩ := h
  have e : c (32 + kp * 3 + f) = c2 (32 + kp * 3 + f) := h2 _ (fun g hg => by omega)
  refine ⟨fun g hg => ?_, fun j hj => h2 j (fun g hg => hj g (by omega)), zj_skip h3 (fun z => z.2 hw), ?_, h5⟩
  · by_cases z : g = f
    · subst z
      rw [e]
      by_cases y : c2 (32 + kp * 3 + g) < 0
      · rw [if_pos y]
        exact hs y
      · rw [if_neg y]
    · exact h1 g (by omega)
  · show L = L2 + (zs_m (zk_d c2 kp gn) f + zk_d c2 kp gn f)
    have : zk_d c2 kp gn f = 0 := by
      unfold zk_d
      rw [if_pos hw]
      split <;> rfl
    omega
theorem zj_Jclaim {kp gn : Nat} {c2 : Nat → Int32} {L2 op0 : Nat} {oA0 oB0 : Nat → Int32} {Lb : Nat} {cb lcb lob : Nat → Int32} {f : Nat} {c : Nat → Int32} {L : Nat} {lc lo : Nat → Int32} {op : Nat} {oA oB : Nat → Int32} (h : zj_J kp gn c2 L2 op0 oA0 oB0 Lb cb lcb lob f c L lc lo op oA oB) (hw : ¬ c2 (32 + gn * 3 + f) < 0) (hu : ¬ c2 (32 + kp * 3 + f) < 0) : zj_J kp gn c2 L2 op0 oA0 oB0 Lb cb lcb lob (f + 1) c L lc lo (op + 1) (upd oA op (c2 (32 + kp * 3 + f))) (upd oB op (c2 (32 + gn * 3 + f))) := by
  obtain ⟨h1, h2, h3, h4, h5⟩ := h
  have e : c (32 + kp * 3 + f) = c2 (32 + kp * 3 + f) := h2 _ (fun g hg => by omega)
  refine ⟨fun g hg => ?_, fun j hj => h2 j (fun g hg => hj g (by omega)), zj_push h3 hu hw, ?_, h5⟩
  · by_cases z : g = f
    · subst z
      rw [e, if_neg hu]
    · exact h1 g (by omega)
  · show L = L2 + (zs_m (zk_d c2 kp gn) f + zk_d c2 kp gn f)
    have : zk_d c2 kp gn f = 0 := by
      unfold zk_d
      rw [if_neg hu]
    omega
theorem zj_Jmove {kp gn : Nat} {c2 : Nat → Int32} {L2 op0 : Nat} {oA0 oB0 : Nat → Int32} {Lb : Nat} {cb lcb lob : Nat → Int32} {f : Nat} {c : Nat → Int32} {L : Nat} {lc lo : Nat → Int32} {op : Nat} {oA oB : Nat → Int32} (h : zj_J kp gn c2 L2 op0 oA0 oB0 Lb cb lcb lob f c L lc lo op oA oB) (hw : ¬ c2 (32 + gn * 3 + f) < 0) (hu : c2 (32 + kp * 3 + f) < 0) (hp : 32 + kp * 3 + f < 80) : zj_J kp gn c2 L2 op0 oA0 oB0 Lb cb lcb lob (f + 1) (upd c (32 + kp * 3 + f) (c2 (32 + gn * 3 + f))) (L + 1) (upd lc L (nI (32 + kp * 3 + f))) (upd lo L (c (32 + kp * 3 + f))) op oA oB := by
  obtain ⟨h1, h2, h3, h4, h5⟩ := h
  refine ⟨fun g hg => ?_, fun j hj => ?_, zj_skip h3 (fun z => z.1 hu), ?_, zl_chg h5 hp⟩
  · by_cases z : g = f
    · subst z
      rw [pk_us, if_pos hu]
    · rw [pk_un (by omega)]
      exact h1 g (by omega)
  · rw [pk_un (hj f (by omega))]
    exact h2 j (fun g hg => hj g (by omega))
  · show L + 1 = L2 + (zs_m (zk_d c2 kp gn) f + zk_d c2 kp gn f)
    have : zk_d c2 kp gn f = 1 := by
      unfold zk_d
      rw [if_pos hu, if_neg hw]
    omega
theorem zk_d1 (c : Nat → Int32) (kp gn f : Nat) : zk_d c kp gn f ≤ 1 := by
  unfold zk_d
  split
  · split <;> omega
  · omega
section
variable {fc fl fm fo : Int32} {bl tr mt c lc lo ml mn oA oB im : Nat → Int32} {n : Nat}
theorem xj_93 {post : Int32 → SX → Prop} {kp gn : Nat} {c2 : Nat → Int32} {L2 op0 : Nat} {oA0 oB0 : Nat → Int32} {Lb : Nat} {cb lcb lob : Nat → Int32} (hn : n ≤ 16) (hk : kp < gn) (hg : gn < n) (hL : L2 + 3 ≤ 256) (ho : op0 + 3 ≤ 64) (hv : ∀ i, i < n → ∀ f, f < 3 → c2 (32 + i * 3 + f) < 0 → c2 (32 + i * 3 + f) = -1) (hK : ∀ c L lc lo op oA oB, zj_J kp gn c2 L2 op0 oA0 oB0 Lb cb lcb lob 3 c L lc lo op oA oB → post 1 (fc, nI L, fm, nI op, bl, tr, mt, c, lc, lo, ml, mn, oA, oB, im)) : ∀ d f c L lc lo op oA oB, f + d = 3 → zj_J kp gn c2 L2 op0 oA0 oB0 Lb cb lcb lob f c L lc lo op oA oB → wX_link_93 post (nI kp) (nI gn) (d + 1) (nI f) fc (nI L) fm (nI op) bl tr mt c lc lo ml mn oA oB im := by
  intro d
  induction d with
  | zero =>
    intro f c L lc lo op oA oB hf hJ
    obtain rfl : f = 3 := by omega
    exact pk_le 3 3 (fun _ => hK c L lc lo op oA oB hJ) (fun z => absurd z (by omega))
  | succ d ih =>
    intro f c L lc lo op oA oB hf hJ
    have hb : zs_m (zk_d c2 kp gn) f ≤ 1 * f := sm_bd f (fun i _ => zk_d1 c2 kp gn i)
    have hL1 : L = L2 + zs_m (zk_d c2 kp gn) f := hJ.2.2.2.1
    have ho1 : op ≤ op0 + f := hJ.2.2.1.2.1
    have eu : c (32 + kp * 3 + f) = c2 (32 + kp * 3 + f) := hJ.2.1 _ (fun g hg => by omega)
    have ew : c (32 + gn * 3 + f) = c2 (32 + gn * 3 + f) := hJ.2.1 _ (fun g hg => by omega)
    refine pk_le 3 f (fun z => absurd z (by omega)) (fun _ => ⟨pk_in (32 + kp * 3 + f) 80 (by omega) (ba_i3 kp f), nm_r (e' := c2 (32 + kp * 3 + f)) (by rw [ba_i3, nI_clamp (by omega)]; exact eu) ⟨pk_in (32 + gn * 3 + f) 80 (by omega) (ba_i3 gn f), nm_r (e' := c2 (32 + gn * 3 + f)) (by rw [ba_i3, nI_clamp (by omega)]; exact ew) ?_⟩⟩)
    by_cases hw : c2 (32 + gn * 3 + f) < 0
    · refine br_t hw (br_t hw (nm_r (nI_1 f) (ih (f + 1) c L lc lo op oA oB (by omega) (zj_Jskip hJ hw (fun hu => ?_)))))
      rw [hv kp (by omega) f (by omega) hu, hv gn hg f (by omega) hw]
    · refine br_f hw (br_c (fun hu => br_f hw ?_) (fun hu => ?_))
      · rw [ba_i3]
        exact xc_all (by omega) (by omega) (nm_r (nI_1 f) (ih (f + 1) _ _ _ _ op oA oB (by omega) (zj_Jmove hJ hw hu (by omega))))
      · exact xk_all (by omega) (nm_r (nI_1 f) (ih (f + 1) c L lc lo _ _ _ (by omega) (zj_Jclaim hJ hw hu)))
theorem xj_go {post : Int32 → SX → Prop} {kp gn m : Nat} {c2 : Nat → Int32} {L L2 op : Nat} {Lb : Nat} {cb lcb lob : Nat → Int32} (hn : n ≤ 16) (hx : zx_I n c) (hk : kp < gn) (hg : gn < n) (hL : L + 5 ≤ 256) (hL2 : L2 ≤ L + 2) (ho : op + 3 ≤ 64) (q1 : c2 gn = nI kp) (q2 : c2 (16 + kp) = nI m) (q3 : ∀ j, j ≠ gn → j ≠ 16 + kp → c2 j = c j) (hG : zl_G Lb cb lcb lob L2 c2 lc lo) (hK : ∀ c' L' lc' lo' op' oA' oB', zk_L kp gn m c c' → zj_O (fun f => c (32 + kp * 3 + f)) (fun f => c (32 + gn * 3 + f)) op oA oB 3 op' oA' oB' → zl_G Lb cb lcb lob L' c' lc' lo' → L' ≤ L + 2 + zs_m (zk_d c kp gn) 3 → post 1 (fc, nI L', fm, nI op', bl, tr, mt, c', lc', lo', ml, mn, oA', oB', im)) : ∃ k, wX_link_93 post (nI kp) (nI gn) k 0 fc (nI L2) fm (nI op) bl tr mt c2 lc lo ml mn oA oB im := by
  have ek : ∀ i f, c2 (32 + i * 3 + f) = c (32 + i * 3 + f) ∨ ¬ i < n := by
    intro i f
    by_cases z : i < n
    · exact Or.inl (q3 _ (by omega) (by omega))
    · exact Or.inr z
  have e1 : (fun f => c2 (32 + kp * 3 + f)) = (fun f => c (32 + kp * 3 + f)) := funext (fun f => (ek kp f).resolve_right (by omega))
  have e2 : (fun f => c2 (32 + gn * 3 + f)) = (fun f => c (32 + gn * 3 + f)) := funext (fun f => (ek gn f).resolve_right (by omega))
  have e3 : zk_d c2 kp gn = zk_d c kp gn := by
    funext f
    unfold zk_d
    rw [(ek kp f).resolve_right (by omega), (ek gn f).resolve_right (by omega)]
  refine ⟨4, xj_93 (c2 := c2) (L2 := L2) (op0 := op) (oA0 := oA) (oB0 := oB) (Lb := Lb) (cb := cb) (lcb := lcb) (lob := lob) hn hk hg (by omega) ho (fun i hi f hf z => ?_) (fun c' L' lc' lo' op' oA' oB' hJ => ?_) 3 0 c2 L2 lc lo op oA oB rfl ⟨fun g hg => absurd hg (by omega), fun j _ => rfl, zj_0 _ _ _ _ _, rfl, hG⟩⟩
  · rw [(ek i f).resolve_right (by omega)] at z ⊢
    rcases hx.2.2 i hi f hf with w | ⟨j, hj, w⟩
    · exact w
    · rw [w] at z
      exact absurd z (nI_pos (by omega))
  · obtain ⟨h1, h2, h3, h4, h5⟩ := hJ
    rw [e1, e2] at h3
    rw [e3] at h4
    refine hK c' L' lc' lo' op' oA' oB' ⟨?_, ?_, fun f hf => ?_, fun j a b d => ?_⟩ h3 h5 (by omega)
    · rw [h2 gn (fun g hg => by omega)]
      exact q1
    · rw [h2 (16 + kp) (fun g hg => by omega)]
      exact q2
    · rw [h1 f hf, (ek kp f).resolve_right (by omega), (ek gn f).resolve_right (by omega)]
    · rw [h2 j d]
      exact q3 j a b
theorem xj_21 {post : Int32 → SX → Prop} {kp gn a b ta tb : Nat} {L op : Nat} {Lb : Nat} {cb lcb lob : Nat → Int32} (hn : n ≤ 16) (hx : zx_I n c) (hk : kp < gn) (hg : gn < n) (ha : a < n) (hb : b < n) (hta : c (16 + a) = nI ta) (htb : c (16 + b) = nI tb) (hta8 : ta < 8) (htb8 : tb < 8) (hL : L + 5 ≤ 256) (ho : op + 3 ≤ 64) (hG : zl_G Lb cb lcb lob L c lc lo) (hm : mt (ta * 8 + tb) = -4 ∨ ∃ m, m < 8 ∧ mt (ta * 8 + tb) = nI m) (h0 : mt (ta * 8 + tb) = -4 → post 0 (fc, nI L, fm, nI op, bl, tr, mt, c, lc, lo, ml, mn, oA, oB, im)) (hK : ∀ m, m < 8 → mt (ta * 8 + tb) = nI m → ∀ c' L' lc' lo' op' oA' oB', zk_L kp gn m c c' → zj_O (fun f => c (32 + kp * 3 + f)) (fun f => c (32 + gn * 3 + f)) op oA oB 3 op' oA' oB' → zl_G Lb cb lcb lob L' c' lc' lo' → L' ≤ L + 2 + zs_m (zk_d c kp gn) 3 → post 1 (fc, nI L', fm, nI op', bl, tr, mt, c', lc', lo', ml, mn, oA', oB', im)) : wX_link_21 post (nI a) (nI b) (nI kp) (nI gn) fc (nI L) fm (nI op) bl tr mt c lc lo ml mn oA oB im := by
  have ea : c (16 + nI a).toNatClampNeg = nI ta := by rw [ba_16, nI_clamp (by omega), hta]
  have eb : c (16 + nI b).toNatClampNeg = nI tb := by rw [ba_16, nI_clamp (by omega), htb]
  refine ⟨pk_in (16 + a) 80 (by omega) (ba_16 a), pk_in (16 + b) 80 (by omega) (ba_16 b), pk_in (ta * 8 + tb) 64 (by omega) (by rw [ea, eb, ba_i8]), nm_r (e' := mt (ta * 8 + tb)) (by rw [ea, eb, ba_i8, nI_clamp (by omega)]) ?_⟩
  rcases hm with e | ⟨m, hm8, e⟩
  · rw [e]
    exact br_f (by decide) (h0 e)
  · rw [e]
    refine br_t (nI_pos' (by omega)) (xc_all (by omega) (by omega) ⟨pk_in (16 + kp) 80 (by omega) (ba_16 kp), ?_⟩)
    have e16 : upd c gn (nI kp) (16 + nI kp).toNatClampNeg = upd c gn (nI kp) (16 + kp) := by rw [ba_16, nI_clamp (by omega)]
    have hG1 := zl_chg (v := nI kp) hG (p := gn) (by omega)
    by_cases z : upd c gn (nI kp) (16 + kp) = nI m
    · refine br_t (e16.trans z) ?_
      exact xj_go hn hx hk hg hL (by omega) ho pk_us z (fun j h1 h2 => pk_un h1) hG1 (hK m hm8 e)
    · refine br_f (fun y => z (e16.symm.trans y)) ?_
      rw [ba_16]
      refine xc_all (by omega) (by omega) ?_
      exact xj_go hn hx hk hg hL (by omega) ho (by rw [pk_un (by omega), pk_us]) pk_us (fun j h1 h2 => by rw [pk_un h2, pk_un h1]) (zl_chg hG1 (by omega)) (hK m hm8 e)
theorem xj_all {post : Int32 → SX → Prop} {a b ta tb : Nat} {L op : Nat} {Lb : Nat} {cb lcb lob : Nat → Int32} (hn : n ≤ 16) (hx : zx_I n c) (hab : a ≠ b) (ha : a < n) (hb : b < n) (hta : c (16 + a) = nI ta) (htb : c (16 + b) = nI tb) (hta8 : ta < 8) (htb8 : tb < 8) (hL : L + 5 ≤ 256) (ho : op + 3 ≤ 64) (hG : zl_G Lb cb lcb lob L c lc lo) (hm : mt (ta * 8 + tb) = -4 ∨ ∃ m, m < 8 ∧ mt (ta * 8 + tb) = nI m) (h0 : mt (ta * 8 + tb) = -4 → post 0 (fc, nI L, fm, nI op, bl, tr, mt, c, lc, lo, ml, mn, oA, oB, im)) (hK : ∀ kp gn, kp < gn → ((a = kp ∧ b = gn) ∨ (a = gn ∧ b = kp)) → ∀ m, m < 8 → mt (ta * 8 + tb) = nI m → ∀ c' L' lc' lo' op' oA' oB', zk_L kp gn m c c' → zj_O (fun f => c (32 + kp * 3 + f)) (fun f => c (32 + gn * 3 + f)) op oA oB 3 op' oA' oB' → zl_G Lb cb lcb lob L' c' lc' lo' → L' ≤ L + 2 + zs_m (zk_d c kp gn) 3 → post 1 (fc, nI L', fm, nI op', bl, tr, mt, c', lc', lo', ml, mn, oA', oB', im)) : wpX_link post (fc, nI L, fm, nI op, bl, tr, mt, c, lc, lo, ml, mn, oA, oB, im) (nI a) (nI b) := by
  refine pk_le b a (fun z => pk_le b a (fun _ => ?_) (fun y => absurd z (by omega))) (fun z => pk_le b a (fun y => absurd z (by omega)) (fun _ => ?_))
  · exact xj_21 hn hx (by omega) ha ha hb hta htb hta8 htb8 hL ho hG hm h0 (hK b a (by omega) (Or.inr ⟨rfl, rfl⟩))
  · exact xj_21 hn hx z hb ha hb hta htb hta8 htb8 hL ho hG hm h0 (hK a b z (Or.inl ⟨rfl, rfl⟩))
end
end
section
/-! ===== making nodes one: the component's rounds ===== -/
theorem zm_and {bl mt : Nat → Int32} (H : zh_I bl mt) {a b m : Nat} (ha : a < 8) (hb : b < 8) (hm : m < 8) (e : mt (a * 8 + b) = nI m) : ∀ s, s < 8 → (bt (bl m) s = true ↔ bt (bl a) s = true ∧ bt (bl b) s = true) := by
  intro s hs
  rcases zm_get H ha hb with ⟨z, _⟩ | ⟨t, g, z⟩
  · rw [e] at z
    exact absurd z (ba_n4 (by omega))
  · have g1 := g.1
    have : m = t := (nI_eq (by omega) (by omega)).mp (e.symm.trans z)
    subst this
    obtain ⟨_, g2, g3⟩ := g
    rw [b_and, Bool.and_eq_true] at g2
    constructor
    · intro w
      exact ⟨H.1.2.2 a ha m hm s g2.1 w, H.1.2.2 b hb m hm s g2.2 w⟩
    · intro w
      refine g3 s (by omega) ?_
      rw [b_and, w.1, w.2]
      rfl
theorem zm_none {bl mt : Nat → Int32} (H : zh_I bl mt) {a b : Nat} (ha : a < 8) (hb : b < 8) (e : mt (a * 8 + b) = -4) : ∀ s, s < 8 → ¬ (bt (bl a) s = true ∧ bt (bl b) s = true) := by
  intro s hs w
  rcases zm_get H ha hb with ⟨_, z⟩ | ⟨t, g, z⟩
  · rcases (H.2.1 a ha b hb).2 with y | ⟨t, y⟩
    · have h := b_and (bl a) (bl b) s
      rw [y, b_0, w.1, w.2] at h
      exact absurd h (by decide)
    · exact z t y
  · rw [e] at z
    have := g.1
    exact ba_n4 (by omega) z.symm
section
variable {fc fl fm fo : Int32} {bl tr mt c lc lo ml mn oA oB im : Nat → Int32} {n : Nat}
theorem xq_0 {post : Int32 → SX → Prop} {x4 : Int32} {k : Nat} (h : post 0 (fc, fl, fm, fo, bl, tr, mt, c, lc, lo, ml, mn, oA, oB, im)) : wX_merge_16 post (k + 1) 0 x4 fc fl fm fo bl tr mt c lc lo ml mn oA oB im :=
  br_c (fun _ => ⟨narrow_b0, h⟩) (fun _ => br_c (fun _ => ⟨narrow_b0, h⟩) (fun _ => br_t rfl ⟨narrow_b0, h⟩))
theorem xq_16 {post : Int32 → SX → Prop} {c0 lc0 lo0 : Nat → Int32} {L0 x0 y0 : Nat} (hn : n ≤ 16) (H : zh_I bl mt) (hx0 : zx_I n c0) (hK0 : ∀ c L lc lo op oA oB, zm_F n bl c0 x0 y0 → zl_G L0 c0 lc0 lo0 L c lc lo → L ≤ 256 → post 0 (fc, nI L, fm, nI op, bl, tr, mt, c, lc, lo, ml, mn, oA, oB, im)) (hK1 : ∀ c L lc lo op oA oB, zm_I n bl c0 x0 y0 c 0 oA oB → zl_G L0 c0 lc0 lo0 L c lc lo → L ≤ zq_P n c → post 1 (fc, nI L, fm, nI op, bl, tr, mt, c, lc, lo, ml, mn, oA, oB, im)) : ∀ d rd c L lc lo op oA oB, rd + d = 64 → zm_I n bl c0 x0 y0 c op oA oB → zl_G L0 c0 lc0 lo0 L c lc lo → L ≤ zq_P n c → op + rd + 3 * zs_m (zr_1 c) n ≤ 49 → wX_merge_16 post (d + 1) 1 (nI rd) fc (nI L) fm (nI op) bl tr mt c lc lo ml mn oA oB im := by
  intro d
  induction d with
  | zero =>
    intro rd c L lc lo op oA oB h1 _ _ _ h2
    exact absurd h2 (by omega)
  | succ d ih =>
    intro rd c L lc lo op oA oB h1 hI hG hL hc
    refine pk_le 64 rd (fun z => absurd z (by omega)) (fun _ => ?_)
    cases op with
    | zero => exact br_t (by decide) ⟨narrow_b1, hK1 c L lc lo 0 oA oB hI hG hL⟩
    | succ op =>
      have hop : op < 49 := by omega
      refine br_f (nI_nle (by omega) (by omega)) (br_f (by decide) (nm_r (nI_pred op) ⟨vp_in_nI (by omega) (by omega), ?_⟩))
      obtain ⟨x, y, hx, hy, eA, eB, _⟩ := hI.2.2.1 op (by omega)
      have eA' : oA (nI op).toNatClampNeg = nI x := by rw [nI_clamp (by omega)]; exact eA
      have eB' : oB (nI op).toNatClampNeg = nI y := by rw [nI_clamp (by omega)]; exact eB
      have lx := zd_lt hn hI.1.1 hx
      have ly := zd_lt hn hI.1.1 hy
      rw [eA']
      refine xd_all hn hI.1.1 hx ⟨vp_in_nI (by omega) (by omega), ?_⟩
      rw [eB']
      refine xd_all hn hI.1.1 hy ?_
      refine pk_eq (zd_f c x) (zd_f c y) (fun e => nm_r (nI_1 rd) (ih (rd + 1) c L lc lo op oA oB (by omega) (zm_pop hI hn hx hy eA eB e) hG hL (by omega))) (fun e => ?_)
      obtain ⟨ta, hta8, hta⟩ := hI.1.2.1 _ lx
      obtain ⟨tb, htb8, htb⟩ := hI.1.2.1 _ ly
      have hq := zq_bd c hn
      have hm : mt (ta * 8 + tb) = -4 ∨ ∃ m, m < 8 ∧ mt (ta * 8 + tb) = nI m := by
        rcases zm_get H hta8 htb8 with ⟨z, _⟩ | ⟨t, g, z⟩
        · exact Or.inl z
        · exact Or.inr ⟨t, g.1, z⟩
      refine xj_all hn hI.1 e lx ly hta htb hta8 htb8 (by omega) (by omega) hG hm (fun e4 => nm_r (nI_1 rd) (xq_0 (hK0 c L lc lo op oA oB (zm_fail hI hn hx hy eA eB ?_) hG (by omega)))) ?_
      · rw [hta, htb, nI_clamp (by omega), nI_clamp (by omega)]
        exact zm_none H hta8 htb8 e4
      · intro kp gn hk he m hm8 em c' L' lc' lo' op' oA' oB' hl hO hG' hL'
        have hgn : gn < n := by
          rcases he with z | z
          · omega
          · omega
        have rk : c kp = -1 := by
          rcases he with z | z
          · rw [← z.1]; exact zd_isr hn hI.1.1 x hx
          · rw [← z.2]; exact zd_isr hn hI.1.1 y hy
        have rg : c gn = -1 := by
          rcases he with z | z
          · rw [← z.2]; exact zd_isr hn hI.1.1 y hy
          · rw [← z.1]; exact zd_isr hn hI.1.1 x hx
        have hqq := zk_q hn hk hgn rk rg hl
        have hrr := zk_r hn hk hgn rg hl
        have ho2 := hO.2.1
        refine nm_r (nI_1 rd) (ih (rd + 1) c' L' lc' lo' op' oA' oB' (by omega) (zm_link hI hx0 hn hx hy eA eB hk hgn he hm8 (fun s hs => ?_) hl hO) hG' (by omega) (by omega))
        have key := zm_and H hta8 htb8 hm8 em s hs
        rcases he with z | z
        · rw [← z.1, ← z.2, hta, htb, nI_clamp (by omega), nI_clamp (by omega)]
          exact key
        · rw [← z.1, ← z.2, hta, htb, nI_clamp (by omega), nI_clamp (by omega)]
          exact key.trans And.comm
theorem xq_all {post : Int32 → SX → Prop} {L x0 y0 : Nat} (hn : n ≤ 16) (H : zh_I bl mt) (hx : zx_I n c) (h1 : x0 < n) (h2 : y0 < n) (hL : L ≤ zq_P n c) (hl : ∀ k, k < L → ∃ j, j < 80 ∧ lc k = nI j) (hK0 : ∀ c' L' lc' lo' op oA oB, zm_F n bl c x0 y0 → zl_G L c lc lo L' c' lc' lo' → L' ≤ 256 → post 0 (fc, nI L', fm, nI op, bl, tr, mt, c', lc', lo', ml, mn, oA, oB, im)) (hK1 : ∀ c' L' lc' lo' op oA oB, zm_I n bl c x0 y0 c' 0 oA oB → zl_G L c lc lo L' c' lc' lo' → L' ≤ zq_P n c' → post 1 (fc, nI L', fm, nI op, bl, tr, mt, c', lc', lo', ml, mn, oA, oB, im)) : wpX_merge post (fc, nI L, fm, fo, bl, tr, mt, c, lc, lo, ml, mn, oA, oB, im) (nI x0) (nI y0) := by
  unfold wpX_merge
  refine xk_all (op := 0) (by omega) ⟨65, ?_⟩
  have hr : zs_m (zr_1 c) n ≤ 1 * n := sm_bd n (fun i _ => by unfold zr_1; split <;> omega)
  exact xq_16 hn H hx hK0 hK1 64 0 c L lc lo 1 _ _ rfl (zm_0 hn hx h1 h2 pk_us pk_us) (zl_refl hl) hL (by omega)
end
end
section
/-! ===== the reference's new numbers: pure laws ===== -/
def zf_P (n : Nat) (F : Nat → Nat) : Prop := ∀ i, i < n → F i ≤ i ∧ F (F i) = F i
def zf_E (n : Nat) (F : Nat → Nat) (fr : Nat → Int32) : Prop := ∀ i, i < n → fr i = nI (F i)
def zf_1 (F : Nat → Nat) (i : Nat) : Nat := if F i = i then 1 else 0
/-- what merge writes -/
def zf_m (F : Nat → Nat) (lw hi i : Nat) : Nat := if F i = hi then lw else F i
theorem zf_same (F : Nat → Nat) (k i : Nat) : zf_m F k k i = F i := by
  unfold zf_m
  split
  · omega
  · rfl
theorem zf_mP {n : Nat} {F : Nat → Nat} (h : zf_P n F) {lw hi : Nat} (hl : lw < hi) (hh : hi < n) (e1 : F lw = lw) : zf_P n (zf_m F lw hi) := by
  intro i hi1
  have h1 := h i hi1
  unfold zf_m
  by_cases z : F i = hi
  · rw [if_pos z, if_neg (by omega)]
    exact ⟨by omega, e1⟩
  · rw [if_neg z, h1.2, if_neg z]
    exact ⟨h1.1, rfl⟩
theorem zf_mK {n : Nat} {F : Nat → Nat} (h : zf_P n F) {lw hi : Nat} (hl : lw < hi) (hh : hi < n) (e2 : F hi = hi) : zs_m (zf_1 (zf_m F lw hi)) n < zs_m (zf_1 F) n := by
  refine sm_lt (k := hi) n hh (fun i hi1 => ?_) ?_
  · have h1 := h i hi1
    unfold zf_1 zf_m
    by_cases z : F i = hi
    · rw [if_pos z, if_neg (by omega)]
      exact Nat.zero_le _
    · rw [if_neg z]
      exact Nat.le_refl _
  · unfold zf_1 zf_m
    rw [if_pos e2, if_pos e2, if_neg (by omega)]
    exact Nat.zero_lt_one
theorem zf_mG {n : Nat} {F g : Nat → Nat} {lw hi : Nat} (hg : ∀ i, i < n → g i = g (F i)) (e : g lw = g hi) : ∀ i, i < n → g i = g (zf_m F lw hi i) := by
  intro i hi1
  have h := hg i hi1
  unfold zf_m
  by_cases z : F i = hi
  · rw [if_pos z, e, ← z]
    exact h
  · rw [if_neg z]
    exact h
theorem zf_mq {F : Nat → Nat} {lw hi p q : Nat} (e : F p = F q) : zf_m F lw hi p = zf_m F lw hi q := by
  unfold zf_m
  rw [e]
/-- between the old numbers and every congruence -/
def zt_I (n : Nat) (c : Nat → Int32) (x0 y0 : Nat) (F : Nat → Nat) : Prop := zf_P n F ∧ (∀ g, zg_G n c x0 y0 g → ∀ i, i < n → g i = g (F i)) ∧ F x0 = F y0 ∧ (∀ i, i < n → F i = F (zd_f c i))
/-- closed at p, q, f -/
def zc_L (c : Nat → Int32) (F : Nat → Nat) (p q f : Nat) : Prop := F p = F q → ¬ c (32 + p * 3 + f) < 0 → ¬ c (32 + q * 3 + f) < 0 → F (c (32 + p * 3 + f)).toNatClampNeg = F (c (32 + q * 3 + f)).toNatClampNeg
def zc_A (n : Nat) (c : Nat → Int32) (F : Nat → Nat) : Prop := ∀ p, p < n → ∀ q, q < p → c p = -1 → c q = -1 → ∀ f, f < 3 → zc_L c F p q f
def zt_S (n : Nat) (F0 F : Nat → Nat) (D : Prop) (b : Int32) : Prop := (b = 0 ∧ F = F0 ∧ D) ∨ (b = 1 ∧ zs_m (zf_1 F) n < zs_m (zf_1 F0) n)
theorem zt_nb {n : Nat} {F0 F : Nat → Nat} {D : Prop} {b : Int32} (h : zt_S n F0 F D b) : narrow .boolean (.int b) = .int b := by
  rcases h with ⟨rfl, _⟩ | ⟨rfl, _⟩
  · exact narrow_b0
  · exact narrow_b1
theorem zt_mono {n : Nat} {F0 F : Nat → Nat} {D D' : Prop} {b : Int32} (h : zt_S n F0 F D b) (hD : F = F0 → D → D') : zt_S n F0 F D' b := by
  rcases h with ⟨e, e2, d⟩ | h
  · exact Or.inl ⟨e, e2, hD e2 d⟩
  · exact Or.inr h
theorem zt_le {n : Nat} {F0 F : Nat → Nat} {D : Prop} {b : Int32} (h : zt_S n F0 F D b) : zs_m (zf_1 F) n ≤ zs_m (zf_1 F0) n := by
  rcases h with ⟨_, e, _⟩ | ⟨_, h⟩
  · rw [e]
    exact Nat.le_refl _
  · omega
theorem zt_good {n : Nat} {c : Nat → Int32} {x0 y0 : Nat} {F : Nat → Nat} (h : zt_I n c x0 y0 F) (hc : zc_A n c F) : zg_G n c x0 y0 F := by
  refine ⟨h.2.2.2, h.2.2.1, fun p hp q hq rp rq e f hf hv hw => ?_⟩
  rcases Nat.lt_trichotomy p q with z | z | z
  · exact (hc q hq p z rq rp f hf e.symm hw hv).symm
  · subst z
    rfl
  · exact hc p hp q z rp rq f hf e hv hw
/-- the lower types of the new number k, over the first j nodes -/
def zl_o (bl c : Nat → Int32) (F : Nat → Nat) (k : Nat) : Nat → Int32
  | 0 => 255
  | j + 1 => if F j = k then zl_o bl c F k j &&& bl (zt_0 c j) else zl_o bl c F k j
theorem zl_bit (bl c : Nat → Int32) (F : Nat → Nat) (k s : Nat) : ∀ j, bt (zl_o bl c F k j) s = true ↔ s < 8 ∧ ∀ p, p < j → F p = k → bt (bl (zt_0 c p)) s = true := by
  intro j
  induction j with
  | zero =>
    show bt 255 s = true ↔ _
    rw [b_255, decide_eq_true_eq]
    exact ⟨fun h => ⟨h, fun p hp => absurd hp (by omega)⟩, fun h => h.1⟩
  | succ j ih =>
    show bt (if F j = k then zl_o bl c F k j &&& bl (zt_0 c j) else zl_o bl c F k j) s = true ↔ _
    by_cases z : F j = k
    · rw [if_pos z, b_and, Bool.and_eq_true, ih]
      constructor
      · intro h
        refine ⟨h.1.1, fun p hp e => ?_⟩
        by_cases y : p = j
        · rw [y]
          exact h.2
        · exact h.1.2 p (by omega) e
      · intro h
        exact ⟨⟨h.1, fun p hp e => h.2 p (by omega) e⟩, h.2 j (by omega) z⟩
    · rw [if_neg z, ih]
      constructor
      · intro h
        refine ⟨h.1, fun p hp e => ?_⟩
        by_cases y : p = j
        · rw [y] at e
          exact absurd e z
        · exact h.2 p (by omega) e
      · intro h
        exact ⟨h.1, fun p hp e => h.2 p (by omega) e⟩
end
section
/-! ===== the reference's new numbers: the walks ===== -/
section
variable {gc gm : Int32} {bl cs ty va fr ig pe ke : Nat → Int32} {n : Nat}
theorem ym_66 {post : Int32 → SY → Prop} {F : Nat → Nat} {lw hi : Nat} (hn : n ≤ 16) (hF : ∀ i, i < n → F i < n) (hl : lw < n) (hh : hi < n) (hK : ∀ fr, zf_E n (zf_m F lw hi) fr → (lw = hi → post 0 (nI n, gm, bl, cs, ty, va, fr, ig, pe, ke)) ∧ (lw ≠ hi → post 1 (nI n, gm, bl, cs, ty, va, fr, ig, pe, ke))) : ∀ d j fr, j + d = n → (∀ i, i < j → fr i = nI (zf_m F lw hi i)) → (∀ i, j ≤ i → i < n → fr i = nI (F i)) → wY_merge_66 post (nI lw) (nI hi) (nI n) gm (d + 1) (nI j) bl cs ty va fr ig pe ke := by
  intro d
  induction d with
  | zero =>
    intro j fr hj h1 h2
    obtain rfl : j = n := by omega
    exact pk_le j j (fun _ => pk_eq lw hi (hK fr h1).1 (hK fr h1).2) (fun z => absurd z (by omega))
  | succ d ih =>
    intro j fr hj h1 h2
    have hin : vp_in (nI j) 16 := vp_in_nI (by omega) (by omega)
    have hcl : (nI j).toNatClampNeg = j := nI_clamp (by omega)
    have hFj := hF j (by omega)
    have ej : fr (nI j).toNatClampNeg = nI (F j) := by rw [hcl]; exact h2 j (Nat.le_refl _) (by omega)
    refine pk_le n j (fun z => absurd z (by omega)) (fun _ => ⟨hin, ?_⟩)
    refine pk_eq (F j) hi (fun z => ⟨hin, nm_r (e' := upd fr j (nI lw)) (by rw [hcl]) (nm_r (nI_1 j) (ih (j + 1) _ (by omega) (fun i hi1 => ?_) (fun i a b => ?_)))⟩) (fun z => ⟨hin, hin, nm_r (e' := upd fr j (nI (F j))) (by rw [ej, hcl]) (nm_r (nI_1 j) (ih (j + 1) _ (by omega) (fun i hi1 => ?_) (fun i a b => ?_)))⟩) (hx := ej)
    · by_cases e : i = j
      · subst e
        rw [pk_us]
        unfold zf_m
        rw [if_pos z]
      · rw [pk_un e]
        exact h1 i (by omega)
    · rw [pk_un (by omega)]
      exact h2 i (by omega) b
    · by_cases e : i = j
      · subst e
        rw [pk_us]
        unfold zf_m
        rw [if_neg z]
      · rw [pk_un e]
        exact h1 i (by omega)
    · rw [pk_un (by omega)]
      exact h2 i (by omega) b
theorem ym_all {post : Int32 → SY → Prop} {F : Nat → Nat} {x y : Nat} (hn : n ≤ 16) (hP : zf_P n F) (hE : zf_E n F fr) (hx : x < n) (hy : y < n) (h0 : F x = F y → ∀ fr, zf_E n F fr → post 0 (nI n, gm, bl, cs, ty, va, fr, ig, pe, ke)) (h1 : F x ≠ F y → ∀ F' fr, zf_E n F' fr → zf_P n F' → zs_m (zf_1 F') n < zs_m (zf_1 F) n → (∀ g : Nat → Nat, (∀ i, i < n → g i = g (F i)) → g x = g y → ∀ i, i < n → g i = g (F' i)) → (∀ p q, F p = F q → F' p = F' q) → F' x = F' y → post 1 (nI n, gm, bl, cs, ty, va, fr, ig, pe, ke)) : wpY_merge post (nI n, gm, bl, cs, ty, va, fr, ig, pe, ke) (nI x) (nI y) := by
  have Fx := hP x hx
  have Fy := hP y hy
  have hF : ∀ i, i < n → F i < n := fun i hi => by have := (hP i hi).1; omega
  have ix : vp_in (nI x) 16 := vp_in_nI (by omega) (by omega)
  have iy : vp_in (nI y) 16 := vp_in_nI (by omega) (by omega)
  have ex : fr (nI x).toNatClampNeg = nI (F x) := by rw [nI_clamp (by omega)]; exact hE x hx
  have ey : fr (nI y).toNatClampNeg = nI (F y) := by rw [nI_clamp (by omega)]; exact hE y hy
  -- both numbers given, the lower first
  have go : ∀ lw hi, ((lw = F x ∧ hi = F y) ∨ (lw = F y ∧ hi = F x)) → lw ≤ hi → ∃ k, wY_merge_66 post (nI lw) (nI hi) (nI n) gm k 0 bl cs ty va fr ig pe ke := by
    intro lw hi hd hle
    refine ⟨n + 1, ym_66 (F := F) hn hF (by omega) (by omega) (fun fr' hE' => ⟨fun e => h0 (by omega) fr' (fun i hi1 => ?_), fun e => ?_⟩) n 0 fr (by omega) (fun i z => absurd z (by omega)) (fun i _ z => hE i z)⟩
    · rw [hE' i hi1, ← e, zf_same]
    · have f1 : F lw = lw := by
        rcases hd with z | z
        · rw [z.1]; exact Fx.2
        · rw [z.1]; exact Fy.2
      have f2 : F hi = hi := by
        rcases hd with z | z
        · rw [z.2]; exact Fy.2
        · rw [z.2]; exact Fx.2
      refine h1 (by omega) _ fr' hE' (zf_mP hP (by omega) (by omega) f1) (zf_mK hP (by omega) (by omega) f2) (fun g hg gxy => zf_mG hg ?_) (fun p q e2 => zf_mq e2) ?_
      · have q1 := hg x hx
        have q2 := hg y hy
        rcases hd with z | z
        · rw [z.1, z.2, ← q1, ← q2, gxy]
        · rw [z.1, z.2, ← q1, ← q2, gxy]
      · unfold zf_m
        rcases hd with z | z
        · rw [if_neg (by omega), if_pos z.2.symm]
          exact z.1.symm
        · rw [if_pos z.2.symm, if_neg (by omega)]
          exact z.1
  refine ⟨ix, iy, pk_le (F y) (F x) (fun z => ⟨iy, ?_⟩) (fun z => ⟨ix, ?_⟩) (hx := ey) (hy := ex)⟩
  · rw [ey]
    exact ⟨ix, iy, pk_le (F y) (F x) (fun _ => ⟨ix, nm_r (e' := nI (F x)) ex (go (F y) (F x) (Or.inr ⟨rfl, rfl⟩) z)⟩) (fun w => absurd z (by omega)) (hx := ey) (hy := ex)⟩
  · rw [ex]
    exact ⟨ix, iy, pk_le (F y) (F x) (fun w => absurd z (by omega)) (fun _ => ⟨iy, nm_r (e' := nI (F y)) ey (go (F x) (F y) (Or.inl ⟨rfl, rfl⟩) (by omega))⟩) (hx := ey) (hy := ex)⟩
end
end
section
/-! ===== the reference's new numbers: rounds, types, the whole try ===== -/
theorem zd_fix {n : Nat} {c : Nat → Int32} (hn : n ≤ 16) (hp : zp_I n c) {p : Nat} (h : p < n) : zd_f c p = p ↔ c p = -1 := by
  constructor
  · intro e
    have := zd_isr hn hp p h
    rw [e] at this
    exact this
  · exact zd_root
theorem zv_cases {n L : Nat} {c cs ty va : Nat → Int32} (hS : zn_S n L c cs ty va) {p f : Nat} (hp : p < n) (rp : c p = -1) (hf : f < 3) : (c (32 + p * 3 + f) < 0 ∧ va (3 * p + f) = -4) ∨ ∃ j, j < n ∧ c (32 + p * 3 + f) = nI j ∧ va (3 * p + f) = nI (zd_f c j) := by
  obtain ⟨hn, hx, _, _, h5⟩ := hS
  have e := (h5 p hp rp).2 f hf
  unfold zv_l at e
  rcases hx.2.2 p hp f hf with w | ⟨j, hj, w⟩
  · rw [w, if_pos ba_m1] at e
    exact Or.inl ⟨by rw [w]; exact ba_m1, e⟩
  · rw [w, if_neg (nI_pos (by omega)), nI_clamp (by omega)] at e
    exact Or.inr ⟨j, hj, w, e⟩
section
variable {gc gm : Int32} {bl cs ty va fr ig pe ke c : Nat → Int32} {n L x0 y0 : Nat}
theorem yv_5 {post : Int32 → SY → Prop} {F : Nat → Nat} {p q : Nat} (hS : zn_S n L c cs ty va) (hp : p < n) (hq : q < n) (rp : c p = -1) (rq : c q = -1) (hK : ∀ F' fr b, zt_I n c x0 y0 F' → zf_E n F' fr → zt_S n F F' (∀ f, f < 3 → zc_L c F p q f) b → post b (nI n, gm, bl, cs, ty, va, fr, ig, pe, ke)) : ∀ d f F' fr b, f + d = 3 → zt_I n c x0 y0 F' → zf_E n F' fr → zt_S n F F' (∀ g, g < f → zc_L c F p q g) b → wY_mergeValues_5 post (nI p) (nI q) (d + 1) b (nI f) (nI n) gm bl cs ty va fr ig pe ke := by
  have hn := hS.1
  have hx := hS.2.1
  intro d
  induction d with
  | zero =>
    intro f F' fr b hf hI hE hT
    obtain rfl : f = 3 := by omega
    exact pk_le 3 3 (fun _ => ⟨zt_nb hT, hK F' fr b hI hE hT⟩) (fun z => absurd z (by omega))
  | succ d ih =>
    intro f F' fr b hf hI hE hT
    have ip : vp_in (nI p) 16 := vp_in_nI (by omega) (by omega)
    have iq : vp_in (nI q) 16 := vp_in_nI (by omega) (by omega)
    have ep : fr (nI p).toNatClampNeg = nI (F' p) := by rw [nI_clamp (by omega)]; exact hE p hp
    have eq : fr (nI q).toNatClampNeg = nI (F' q) := by rw [nI_clamp (by omega)]; exact hE q hq
    have bp := (hI.1 p hp).1
    have bq := (hI.1 q hq).1
    have skip : (F' = F → zc_L c F p q f) → wY_mergeValues_5 post (nI p) (nI q) (d + 1) b (nI (f + 1)) (nI n) gm bl cs ty va fr ig pe ke := fun z => ih (f + 1) F' fr b (by omega) hI hE (zt_mono hT (fun e D g hg => by
      by_cases y : g = f
      · rw [y]; exact z e
      · exact D g (by omega)))
    refine pk_le 3 f (fun z => absurd z (by omega)) (fun _ => ⟨pk_in (3 * p + f) 48 (by omega) (ba_y3 p f), nm_r (e' := va (3 * p + f)) (by rw [ba_y3, nI_clamp (by omega)]) ⟨pk_in (3 * q + f) 48 (by omega) (ba_y3 q f), nm_r (e' := va (3 * q + f)) (by rw [ba_y3, nI_clamp (by omega)]) ⟨ip, iq, ?_⟩⟩⟩)
    refine pk_eq (F' p) (F' q) (fun e => ?_) (fun e => nm_r (nI_1 f) (skip (fun y z => absurd (y ▸ z) e))) (hx := ep) (hy := eq)
    rcases zv_cases hS hp rp (f := f) (by omega) with ⟨z, v⟩ | ⟨j1, hj1, w1, v1⟩
    · rw [v]
      exact br_t rfl (nm_r (nI_1 f) (skip (fun _ _ y => absurd z y)))
    · have l1 := zd_lt hn hx.1 hj1
      rw [v1]
      refine br_f (ba_n4 (by omega)) ?_
      rcases zv_cases hS hq rq (f := f) (by omega) with ⟨z, v⟩ | ⟨j2, hj2, w2, v2⟩
      · rw [v]
        exact br_t rfl (nm_r (nI_1 f) (skip (fun _ _ _ y => absurd z y)))
      · have l2 := zd_lt hn hx.1 hj2
        rw [v2]
        refine br_f (ba_n4 (by omega)) ?_
        refine ym_all hn hI.1 hE l1 l2 (fun e0 fr' hE' => br_t rfl (nm_r (nI_1 f) ?_)) (fun e1 F'' fr' hE' hP' hk hg hq2 hxy => br_f (by decide) (nm_r (nI_1 f) ?_))
        · refine ih (f + 1) F' fr' b (by omega) hI hE' (zt_mono hT (fun eF D g hg => ?_))
          by_cases y : g = f
          · subst y
            intro _ _ _
            subst eF
            rw [w1, w2, nI_clamp (by omega), nI_clamp (by omega), hI.2.2.2 j1 hj1, hI.2.2.2 j2 hj2, e0]
          · exact D g (by omega)
        · refine ih (f + 1) F'' fr' 1 (by omega) ⟨hP', fun g G => hg g (hI.2.1 g G) ?_, hq2 _ _ hI.2.2.1, fun i hi => hq2 _ _ (hI.2.2.2 i hi)⟩ hE' (Or.inr ⟨rfl, by have := zt_le hT; omega⟩)
          have g1 := G.1 j1 hj1
          have g2 := G.1 j2 hj2
          have gp := hI.2.1 g G p hp
          have gq := hI.2.1 g G q hq
          have := G.2.2 p hp q hq rp rq (by rw [gp, gq, e]) f (by omega) (by rw [w1]; exact nI_pos (by omega)) (by rw [w2]; exact nI_pos (by omega))
          rw [w1, w2, nI_clamp (by omega), nI_clamp (by omega)] at this
          rw [← g1, ← g2, this]
theorem yv_all {post : Int32 → SY → Prop} {F : Nat → Nat} {p q : Nat} (hS : zn_S n L c cs ty va) (hp : p < n) (hq : q < n) (rp : c p = -1) (rq : c q = -1) (hI : zt_I n c x0 y0 F) (hE : zf_E n F fr) (hK : ∀ F' fr b, zt_I n c x0 y0 F' → zf_E n F' fr → zt_S n F F' (∀ f, f < 3 → zc_L c F p q f) b → post b (nI n, gm, bl, cs, ty, va, fr, ig, pe, ke)) : wpY_mergeValues post (nI n, gm, bl, cs, ty, va, fr, ig, pe, ke) (nI p) (nI q) :=
  ⟨4, yv_5 hS hp hq rp rq hK 3 0 F fr 0 rfl hI hE (Or.inl ⟨rfl, rfl, fun g hg => absurd hg (by omega)⟩)⟩
/-- the pairs before (p, j) are closed -/
def zc_D (c : Nat → Int32) (F : Nat → Nat) (p j : Nat) : Prop := (∀ p', p' < p → ∀ q, q < p' → c p' = -1 → c q = -1 → ∀ f, f < 3 → zc_L c F p' q f) ∧ (∀ q, q < j → c p = -1 → c q = -1 → ∀ f, f < 3 → zc_L c F p q f)
theorem yw_14 {post : Int32 → SY → Prop} {F : Nat → Nat} {p k : Nat} (hS : zn_S n L c cs ty va) (hp : p < n) (hJ : ∀ F' fr b, zt_I n c x0 y0 F' → zf_E n F' fr → zt_S n F F' (zc_D c F (p + 1) 0) b → wY_mergeMore_4 post k b (nI (p + 1)) (nI n) gm bl cs ty va fr ig pe ke) : ∀ d j F' fr b, j + d = p → zt_I n c x0 y0 F' → zf_E n F' fr → zt_S n F F' (zc_D c F p j) b → wY_mergeMore_14 post (wY_mergeMore_4 post k) (nI p) (d + 1) b (nI j) (nI n) gm bl cs ty va fr ig pe ke := by
  have hn := hS.1
  have hx := hS.2.1
  intro d
  induction d with
  | zero =>
    intro j F' fr b hj hI hE hT
    obtain rfl : j = p := by omega
    refine pk_le j j (fun _ => nm_r (nI_1 j) (hJ F' fr b hI hE (zt_mono hT (fun _ D => ⟨fun p' hp' q hq => ?_, fun q hq => absurd hq (by omega)⟩)))) (fun z => absurd z (by omega))
    by_cases e : p' = j
    · subst e
      exact D.2 q hq
    · exact D.1 p' (by omega) q hq
  | succ d ih =>
    intro j F' fr b hj hI hE hT
    have next : ∀ F'' fr'' b'', zt_I n c x0 y0 F'' → zf_E n F'' fr'' → zt_S n F F'' (zc_D c F p j) b'' → (F'' = F → c p = -1 → c j = -1 → ∀ f, f < 3 → zc_L c F p j f) → wY_mergeMore_14 post (wY_mergeMore_4 post k) (nI p) (d + 1) b'' (nI (j + 1)) (nI n) gm bl cs ty va fr'' ig pe ke := fun F'' fr'' b'' hI2 hE2 hT2 z => ih (j + 1) F'' fr'' b'' (by omega) hI2 hE2 (zt_mono hT2 (fun e D => ⟨D.1, fun q hq => by
      by_cases y : q = j
      · rw [y]; exact z e
      · exact D.2 q (by omega)⟩))
    have cp : cs (nI p).toNatClampNeg = nI (zd_f c p) := by rw [nI_clamp (by omega)]; exact hS.2.2.2.1 p hp
    have cj : cs (nI j).toNatClampNeg = nI (zd_f c j) := by rw [nI_clamp (by omega)]; exact hS.2.2.2.1 j (by omega)
    have lp := zd_lt hn hx.1 hp
    have lj := zd_lt hn hx.1 (a := j) (by omega)
    refine pk_le p j (fun z => absurd z (by omega)) (fun _ => ⟨vp_in_nI (by omega) (by omega), ?_⟩)
    refine pk_eq (zd_f c p) p (fun e1 => ⟨vp_in_nI (by omega) (by omega), ?_⟩) (fun e1 => nm_r (nI_1 j) (next F' fr b hI hE hT (fun _ y => absurd (zd_root y) e1))) (hx := cp)
    refine pk_eq (zd_f c j) j (fun e2 => ?_) (fun e2 => nm_r (nI_1 j) (next F' fr b hI hE hT (fun _ _ y => absurd (zd_root y) e2))) (hx := cj)
    refine yv_all hS hp (by omega) ((zd_fix hn hx.1 hp).mp e1) ((zd_fix hn hx.1 (by omega)).mp e2) hI hE (fun F'' fr'' b'' hI2 hE2 hT2 => ?_)
    rcases hT2 with ⟨rfl, rfl, D⟩ | ⟨rfl, hk⟩
    · exact br_t rfl (nm_r (nI_1 j) (next F'' fr'' b hI2 hE2 hT (fun e _ _ => e ▸ D)))
    · refine br_f (by decide) (nm_r (nI_1 j) (next F'' fr'' 1 hI2 hE2 (Or.inr ⟨rfl, by have := zt_le hT; omega⟩) (fun e => ?_)))
      have := zt_le hT
      rw [e] at hk
      exact absurd hk (by omega)
theorem yw_4 {post : Int32 → SY → Prop} {F : Nat → Nat} (hS : zn_S n L c cs ty va) (hK : ∀ F' fr b, zt_I n c x0 y0 F' → zf_E n F' fr → zt_S n F F' (zc_A n c F) b → post b (nI n, gm, bl, cs, ty, va, fr, ig, pe, ke)) : ∀ d p F' fr b, p + d = n → zt_I n c x0 y0 F' → zf_E n F' fr → zt_S n F F' (zc_D c F p 0) b → wY_mergeMore_4 post (d + 1) b (nI p) (nI n) gm bl cs ty va fr ig pe ke := by
  have hn := hS.1
  intro d
  induction d with
  | zero =>
    intro p F' fr b hp hI hE hT
    obtain rfl : p = n := by omega
    exact pk_le p p (fun _ => ⟨zt_nb hT, hK F' fr b hI hE (zt_mono hT (fun _ D => D.1))⟩) (fun z => absurd z (by omega))
  | succ d ih =>
    intro p F' fr b hp hI hE hT
    refine pk_le n p (fun z => absurd z (by omega)) (fun _ => ⟨p + 1, ?_⟩)
    exact yw_14 hS (by omega) (fun F'' fr'' b'' a1 a2 a3 => ih (p + 1) F'' fr'' b'' (by omega) a1 a2 a3) p 0 F' fr b (by omega) hI hE hT
theorem yw_all {post : Int32 → SY → Prop} {F : Nat → Nat} (hS : zn_S n L c cs ty va) (hI : zt_I n c x0 y0 F) (hE : zf_E n F fr) (hK : ∀ F' fr b, zt_I n c x0 y0 F' → zf_E n F' fr → zt_S n F F' (zc_A n c F) b → post b (nI n, gm, bl, cs, ty, va, fr, ig, pe, ke)) : wpY_mergeMore post (nI n, gm, bl, cs, ty, va, fr, ig, pe, ke) :=
  ⟨n + 1, yw_4 hS hK n 0 F fr 0 (by omega) hI hE (Or.inl ⟨rfl, rfl, fun p hp => absurd hp (by omega), fun q hq => absurd hq (by omega)⟩)⟩
theorem yo_6 {post : Int32 → Prop} {F : Nat → Nat} {k : Nat} (hS : zn_S n L c cs ty va) (hk : k < 16) (hP : zf_P n F) (hE : zf_E n F fr) (h : post (zl_o bl c F k n)) : ∀ d j, j + d = n → wY_lowerOf_6 post (nI k) (nI n) gm bl cs ty va fr ig pe ke (d + 1) (zl_o bl c F k j) (nI j) := by
  have hn := hS.1
  have hx := hS.2.1
  intro d
  induction d with
  | zero =>
    intro j hj
    obtain rfl : j = n := by omega
    exact pk_le j j (fun _ => h) (fun z => absurd z (by omega))
  | succ d ih =>
    intro j hj
    have hj1 : j < n := by omega
    have hin : vp_in (nI j) 16 := vp_in_nI (by omega) (by omega)
    have hcl : (nI j).toNatClampNeg = j := nI_clamp (by omega)
    have ej : fr (nI j).toNatClampNeg = nI (F j) := by rw [hcl]; exact hE j hj1
    have cj : cs (nI j).toNatClampNeg = nI (zd_f c j) := by rw [hcl]; exact hS.2.2.2.1 j hj1
    have lj := zd_lt hn hx.1 hj1
    have bj := (hP j hj1).1
    have tj : ty (cs (nI j).toNatClampNeg).toNatClampNeg = c (16 + zd_f c j) := by
      rw [cj, nI_clamp (by omega)]
      exact (hS.2.2.2.2 _ lj (zd_isr hn hx.1 j hj1)).1
    obtain ⟨t, ht8, ht⟩ := hx.2.1 _ lj
    have hi := ih (j + 1) (by omega)
    refine pk_le n j (fun z => absurd z (by omega)) (fun _ => ⟨hin, ?_⟩)
    refine pk_eq (F j) k (fun e => ⟨hin, pk_in (zd_f c j) 16 (by omega) cj, pk_in t 8 ht8 (tj.trans ht), nm_r (e' := zl_o bl c F k (j + 1)) ?_ (nm_r (nI_1 j) hi)⟩) (fun e => nm_r (nI_1 j) ?_) (hx := ej)
    · rw [tj]
      show _ = (if F j = k then zl_o bl c F k j &&& bl (zt_0 c j) else zl_o bl c F k j)
      rw [if_pos e]
      rfl
    · have e2 : zl_o bl c F k (j + 1) = zl_o bl c F k j := if_neg e
      rw [e2] at hi
      exact hi
theorem yo_all {post : Int32 → Prop} {F : Nat → Nat} {k : Nat} (hS : zn_S n L c cs ty va) (hk : k < 16) (hP : zf_P n F) (hE : zf_E n F fr) (h : post (zl_o bl c F k n)) : wpY_lowerOf post (nI n, gm, bl, cs, ty, va, fr, ig, pe, ke) (nI k) := ⟨n + 1, yo_6 hS hk hP hE h n 0 (by omega)⟩
theorem yt_63 {post : Int32 → SY → Prop} {F : Nat → Nat} (hS : zn_S n L c cs ty va) (hP : zf_P n F) (hE : zf_E n F fr) (h0 : (∃ i, i < n ∧ zl_o bl c F (F i) n = 0) → post 0 (nI n, gm, bl, cs, ty, va, fr, ig, pe, ke)) (h1 : (∀ i, i < n → ¬ zl_o bl c F (F i) n = 0) → post 1 (nI n, gm, bl, cs, ty, va, fr, ig, pe, ke)) : ∀ d j, j + d = n → (∀ i, i < j → ¬ zl_o bl c F (F i) n = 0) → wY_tryUnify_63 post (nI n) gm bl cs ty va fr ig pe ke (d + 1) (nI j) := by
  have hn := hS.1
  intro d
  induction d with
  | zero =>
    intro j hj hp
    obtain rfl : j = n := by omega
    exact pk_le j j (fun _ => h1 hp) (fun z => absurd z (by omega))
  | succ d ih =>
    intro j hj hp
    have ej : fr (nI j).toNatClampNeg = nI (F j) := by rw [nI_clamp (by omega)]; exact hE j (by omega)
    have bj := (hP j (by omega)).1
    refine pk_le n j (fun z => absurd z (by omega)) (fun _ => ⟨vp_in_nI (by omega) (by omega), ?_⟩)
    rw [ej]
    refine yo_all hS (by omega) hP hE (br_c (fun z => h0 ⟨j, by omega, z⟩) (fun z => nm_r (nI_1 j) (ih (j + 1) (by omega) (fun i hi => ?_))))
    by_cases e : i = j
    · rw [e]; exact z
    · exact hp i (by omega)
theorem yt_38 {post : Int32 → SY → Prop} (hS : zn_S n L c cs ty va) (h0 : ∀ F fr, zt_I n c x0 y0 F → zg_G n c x0 y0 F → zf_E n F fr → (∃ i, i < n ∧ zl_o bl c F (F i) n = 0) → post 0 (nI n, gm, bl, cs, ty, va, fr, ig, pe, ke)) (h1 : ∀ F fr, zt_I n c x0 y0 F → zg_G n c x0 y0 F → zf_E n F fr → (∀ i, i < n → ¬ zl_o bl c F (F i) n = 0) → post 1 (nI n, gm, bl, cs, ty, va, fr, ig, pe, ke)) : ∀ d rd F fr b, rd + d = 16 → zt_I n c x0 y0 F → zf_E n F fr → ((b = 0 ∧ zc_A n c F) ∨ (b = 1 ∧ zs_m (zf_1 F) n + rd ≤ 15)) → wY_tryUnify_38 post (d + 1) b (nI rd) (nI n) gm bl cs ty va fr ig pe ke := by
  have hn := hS.1
  intro d
  induction d with
  | zero =>
    intro rd F fr b hr hI hE hb
    rcases hb with ⟨rfl, hb⟩ | ⟨_, hb⟩
    · refine pk_le 16 rd (fun _ => ⟨n + 1, ?_⟩) (fun z => absurd z (by omega))
      exact yt_63 hS hI.1 hE (h0 F fr hI (zt_good hI hb) hE) (h1 F fr hI (zt_good hI hb) hE) n 0 (by omega) (fun i hi => absurd hi (by omega))
    · exact absurd hb (by omega)
  | succ d ih =>
    intro rd F fr b hr hI hE hb
    refine pk_le 16 rd (fun z => absurd z (by omega)) (fun _ => ?_)
    rcases hb with ⟨rfl, hb⟩ | ⟨rfl, hb⟩
    · refine br_t rfl ⟨n + 1, ?_⟩
      exact yt_63 hS hI.1 hE (h0 F fr hI (zt_good hI hb) hE) (h1 F fr hI (zt_good hI hb) hE) n 0 (by omega) (fun i hi => absurd hi (by omega))
    · refine br_f (by decide) (yw_all hS hI hE (fun F' fr' b' hI' hE' hT => nm_r (nI_1 rd) (ih (rd + 1) F' fr' b' (by omega) hI' hE' ?_)))
      rcases hT with ⟨rfl, rfl, D⟩ | ⟨rfl, hk⟩
      · exact Or.inl ⟨rfl, D⟩
      · exact Or.inr ⟨rfl, by omega⟩
theorem yt_2 {post : Int32 → SY → Prop} (hS : zn_S n L c cs ty va) (hx0 : x0 < n) (hy0 : y0 < n) (h0 : ∀ F fr, zt_I n c x0 y0 F → zg_G n c x0 y0 F → zf_E n F fr → (∃ i, i < n ∧ zl_o bl c F (F i) n = 0) → post 0 (nI n, gm, bl, cs, ty, va, fr, ig, pe, ke)) (h1 : ∀ F fr, zt_I n c x0 y0 F → zg_G n c x0 y0 F → zf_E n F fr → (∀ i, i < n → ¬ zl_o bl c F (F i) n = 0) → post 1 (nI n, gm, bl, cs, ty, va, fr, ig, pe, ke)) : ∀ d j fr, j + d = n → (∀ i, i < j → fr i = nI (zd_f c i)) → wY_tryUnify_2 post (nI x0) (nI y0) (nI n) gm (d + 1) (nI j) bl cs ty va fr ig pe ke := by
  have hn := hS.1
  have hx := hS.2.1
  intro d
  induction d with
  | zero =>
    intro j fr hj hp
    obtain rfl : j = n := by omega
    have hP : zf_P j (zd_f c) := fun i hi => ⟨zd_le hn hx.1 i hi, zd_idem hn hx.1 hi⟩
    refine pk_le j j (fun _ => ?_) (fun z => absurd z (by omega))
    refine ym_all hn hP hp hx0 hy0 (fun e fr' hE' => ⟨17, ?_⟩) (fun e F' fr' hE' hP' hk hg hq hxy => ⟨17, ?_⟩)
    · refine yt_38 hS h0 h1 16 0 (zd_f c) fr' 0 rfl ⟨hP, fun g G => G.1, e, fun i hi => (zd_idem hn hx.1 hi).symm⟩ hE' (Or.inl ⟨rfl, fun p hp q hq rp rq f hf e2 => ?_⟩)
      rw [zd_root rp, zd_root rq] at e2
      exact absurd e2 (by omega)
    · have hb : zs_m (zf_1 (zd_f c)) j ≤ 1 * j := sm_bd j (fun i _ => by unfold zf_1; split <;> omega)
      exact yt_38 hS h0 h1 16 0 F' fr' 1 rfl ⟨hP', fun g G => hg g G.1 G.2.1, hxy, fun i hi => hq _ _ (zd_idem hn hx.1 hi).symm⟩ hE' (Or.inr ⟨rfl, by omega⟩)
  | succ d ih =>
    intro j fr hj hp
    have hin : vp_in (nI j) 16 := vp_in_nI (by omega) (by omega)
    have hcl : (nI j).toNatClampNeg = j := nI_clamp (by omega)
    refine pk_le n j (fun z => absurd z (by omega)) (fun _ => ⟨hin, hin, nm_r (e' := upd fr j (nI (zd_f c j))) (by rw [hcl, hS.2.2.2.1 j (by omega)]) (nm_r (nI_1 j) (ih (j + 1) _ (by omega) (fun i hi => ?_)))⟩)
    by_cases e : i = j
    · subst e
      exact pk_us
    · rw [pk_un e]
      exact hp i (by omega)
theorem yt_all {post : Int32 → SY → Prop} (hS : zn_S n L c cs ty va) (hx0 : x0 < n) (hy0 : y0 < n) (h0 : ∀ F fr, zt_I n c x0 y0 F → zg_G n c x0 y0 F → zf_E n F fr → (∃ i, i < n ∧ zl_o bl c F (F i) n = 0) → post 0 (nI n, gm, bl, cs, ty, va, fr, ig, pe, ke)) (h1 : ∀ F fr, zt_I n c x0 y0 F → zg_G n c x0 y0 F → zf_E n F fr → (∀ i, i < n → ¬ zl_o bl c F (F i) n = 0) → post 1 (nI n, gm, bl, cs, ty, va, fr, ig, pe, ke)) : wpY_tryUnify post (nI n, gm, bl, cs, ty, va, fr, ig, pe, ke) (nI x0) (nI y0) := ⟨n + 1, yt_2 hS hx0 hy0 h0 h1 n 0 fr (by omega) (fun i hi => absurd hi (by omega))⟩
end
end
section
/-! ===== the reference takes the new numbers ===== -/
theorem ba_d3 {i : Nat} (h : i < 2 ^ 31) : nI i / 3 = nI (i / 3) := pk_div (d := 3) h (by omega) (by omega)
theorem ba_r3 {i : Nat} (h : i < 2 ^ 31) : nI i - nI i / 3 * 3 = nI (i % 3) := pk_rem (d := 3) h (by omega) (by omega)
section
variable {gc gm : Int32} {bl cs ty va fr ig pe ke c : Nat → Int32} {n L x0 y0 : Nat} {F : Nat → Nat}
theorem yz_2 {post : Int32 → Prop} {k f : Nat} (hS : zn_S n L c cs ty va) (hk : k < 16) (hf : f < 3) (hP : zf_P n F) (hE : zf_E n F fr) (h4 : (∀ p, p < n → F p = k → c (32 + zd_f c p * 3 + f) < 0) → post (-4)) (hv : ∀ p, p < n → F p = k → ∀ j, j < n → c (32 + zd_f c p * 3 + f) = nI j → post (nI (F (zd_f c j)))) : ∀ d j, j + d = n → (∀ p, p < j → F p = k → c (32 + zd_f c p * 3 + f) < 0) → wY_valueOf_2 post (nI k) (nI f) (nI n) gm bl cs ty va fr ig pe ke (d + 1) (nI j) := by
  have hn := hS.1
  have hx := hS.2.1
  intro d
  induction d with
  | zero =>
    intro j hj hp
    obtain rfl : j = n := by omega
    exact pk_le j j (fun _ => h4 hp) (fun z => absurd z (by omega))
  | succ d ih =>
    intro j hj hp
    have hj1 : j < n := by omega
    have hin : vp_in (nI j) 16 := vp_in_nI (by omega) (by omega)
    have hcl : (nI j).toNatClampNeg = j := nI_clamp (by omega)
    have ej : fr (nI j).toNatClampNeg = nI (F j) := by rw [hcl]; exact hE j hj1
    have cj : cs (nI j).toNatClampNeg = nI (zd_f c j) := by rw [hcl]; exact hS.2.2.2.1 j hj1
    have lj := zd_lt hn hx.1 hj1
    have bj := (hP j hj1).1
    have ix : (3 * cs (nI j).toNatClampNeg) + nI f = nI (3 * zd_f c j + f) := by rw [cj, ba_y3]
    have next : (F j = k → c (32 + zd_f c j * 3 + f) < 0) → wY_valueOf_2 post (nI k) (nI f) (nI n) gm bl cs ty va fr ig pe ke (d + 1) (nI (j + 1)) := fun z => ih (j + 1) (by omega) (fun p hp2 => by
      by_cases e : p = j
      · rw [e]; exact z
      · exact hp p (by omega))
    refine pk_le n j (fun z => absurd z (by omega)) (fun _ => ⟨hin, pk_in (3 * zd_f c j + f) 48 (by omega) ix, nm_r (e' := va (3 * zd_f c j + f)) (by rw [ix, nI_clamp (by omega)]) ⟨hin, ?_⟩⟩)
    refine pk_eq (F j) k (fun e => ?_) (fun e => nm_r (nI_1 j) (next (fun y => absurd y e))) (hx := ej)
    rcases zv_cases hS lj (zd_isr hn hx.1 j hj1) hf with ⟨z, v⟩ | ⟨i, hi, w, v⟩
    · rw [v]
      exact br_t rfl (nm_r (nI_1 j) (next (fun _ => z)))
    · have li := zd_lt hn hx.1 hi
      rw [v]
      refine br_f (ba_n4 (by omega)) ⟨vp_in_nI (by omega) (by omega), ?_⟩
      rw [nI_clamp (by omega), hE _ li]
      exact hv j hj1 e i hi w
theorem yz_all {post : Int32 → Prop} {k f : Nat} (hS : zn_S n L c cs ty va) (hk : k < 16) (hf : f < 3) (hP : zf_P n F) (hE : zf_E n F fr) (h4 : (∀ p, p < n → F p = k → c (32 + zd_f c p * 3 + f) < 0) → post (-4)) (hv : ∀ p, p < n → F p = k → ∀ j, j < n → c (32 + zd_f c p * 3 + f) = nI j → post (nI (F (zd_f c j)))) : wpY_valueOf post (nI n, gm, bl, cs, ty, va, fr, ig, pe, ke) (nI k) (nI f) := ⟨n + 1, yz_2 hS hk hf hP hE h4 hv n 0 (by omega) (fun p hp => absurd hp (by omega))⟩
theorem yk_36 {post : SY → Prop} (hn : n ≤ 16) (hK : ∀ va, (∀ i, i < 3 * n → va i = pe i) → post (nI n, gm, bl, cs, ty, va, fr, ig, pe, ke)) : ∀ d j va, j + d = 3 * n → (∀ i, i < j → va i = pe i) → wY_takeValues_36 post (nI n) gm (d + 1) (nI j) bl cs ty va fr ig pe ke := by
  intro d
  induction d with
  | zero =>
    intro j va hj hp
    exact pk_le (3 * n) j (fun _ => hK va (fun i hi => hp i (by omega))) (fun z => absurd z (by omega)) (hx := ba_3 n)
  | succ d ih =>
    intro j va hj hp
    have hin : vp_in (nI j) 48 := vp_in_nI (by omega) (by omega)
    refine pk_le (3 * n) j (fun z => absurd z (by omega)) (fun _ => ⟨hin, hin, nm_r (e' := upd va j (pe j)) (by rw [nI_clamp (by omega)]) (nm_r (nI_1 j) (ih (j + 1) _ (by omega) (fun i hi => ?_)))⟩) (hx := ba_3 n)
    by_cases e : i = j
    · subst e
      exact pk_us
    · rw [pk_un e]
      exact hp i (by omega)
/-- the values that are to be written: V -/
def zv_W (n : Nat) (c : Nat → Int32) (F : Nat → Nat) (V : Nat → Nat → Int32) : Prop := ∀ r, r < n → F r = r → ∀ f, f < 3 → ((∀ p, p < n → F p = r → c (32 + zd_f c p * 3 + f) < 0) → V r f = -4) ∧ (∀ p, p < n → F p = r → ∀ j, j < n → c (32 + zd_f c p * 3 + f) = nI j → V r f = nI (F (zd_f c j)))
theorem yk_2 {post : SY → Prop} {V : Nat → Nat → Int32} (hS : zn_S n L c cs ty va) (hP : zf_P n F) (hE : zf_E n F fr) (hV : zv_W n c F V) (hK : ∀ va pe, (∀ r, r < n → F r = r → ∀ f, f < 3 → va (3 * r + f) = V r f) → post (nI n, gm, bl, cs, ty, va, fr, ig, pe, ke)) : ∀ d j pe, j + d = 3 * n → (∀ r, r < n → F r = r → ∀ f, f < 3 → 3 * r + f < j → pe (3 * r + f) = V r f) → wY_takeValues_2 post (nI n) gm (d + 1) (nI j) bl cs ty va fr ig pe ke := by
  have hn := hS.1
  intro d
  induction d with
  | zero =>
    intro j pe hj hp
    refine pk_le (3 * n) j (fun _ => ⟨3 * n + 1, ?_⟩) (fun z => absurd z (by omega)) (hx := ba_3 n)
    refine yk_36 hn (fun va' h => hK va' pe (fun r hr e f hf => ?_)) (3 * n) 0 va (by omega) (fun i hi => absurd hi (by omega))
    rw [h _ (by omega)]
    exact hp r hr e f hf (by omega)
  | succ d ih =>
    intro j pe hj hp
    have step : ∀ v, (F (j / 3) = j / 3 → v = V (j / 3) (j % 3)) → wY_takeValues_2 post (nI n) gm (d + 1) (nI (j + 1)) bl cs ty va fr ig (upd pe j v) ke := fun v hv => ih (j + 1) _ (by omega) (fun r hr e f hf hlt => by
      by_cases y : 3 * r + f = j
      · have e1 : j / 3 = r := by omega
        have e2 : j % 3 = f := by omega
        rw [e1, e2] at hv
        rw [y, pk_us]
        exact hv e
      · rw [pk_un y]
        exact hp r hr e f hf (by omega))
    refine pk_le (3 * n) j (fun z => absurd z (by omega)) (fun _ => ⟨by decide, by decide, ?_⟩) (hx := ba_3 n)
    rw [ba_r3 (by omega), ba_d3 (by omega)]
    refine yz_all hS (by omega) (by omega) hP hE (fun z => ⟨vp_in_nI (by omega) (by omega), nm_r (e' := upd pe j (-4)) (by rw [nI_clamp (by omega)]) (nm_r (nI_1 j) (step _ (fun e => ((hV _ (by omega) e _ (by omega)).1 z).symm)))⟩) (fun p hp1 e1 i hi w => ⟨vp_in_nI (by omega) (by omega), nm_r (e' := upd pe j (nI (F (zd_f c i)))) (by rw [nI_clamp (by omega)]) (nm_r (nI_1 j) (step _ (fun e => ((hV _ (by omega) e _ (by omega)).2 p hp1 e1 i hi w).symm)))⟩)
theorem yx_85 {post : Int32 → SY → Prop} (hn : n ≤ 16) (hK : ∀ cs ty, (∀ i, i < n → cs i = fr i ∧ ty i = ig i) → post (nI (zs_m (zr_2 cs) n)) (nI n, gm, bl, cs, ty, va, fr, ig, pe, ke)) : ∀ d j cs ty, j + d = n → (∀ i, i < j → cs i = fr i ∧ ty i = ig i) → wY_unify_85 post (nI n) gm (d + 1) (nI j) bl cs ty va fr ig pe ke := by
  intro d
  induction d with
  | zero =>
    intro j cs ty hj hp
    obtain rfl : j = n := by omega
    exact pk_le j j (fun _ => yl_all hn (hK cs ty hp)) (fun z => absurd z (by omega))
  | succ d ih =>
    intro j cs ty hj hp
    have hin : vp_in (nI j) 16 := vp_in_nI (by omega) (by omega)
    have hcl : (nI j).toNatClampNeg = j := nI_clamp (by omega)
    refine pk_le n j (fun z => absurd z (by omega)) (fun _ => ⟨hin, hin, nm_r (e' := upd ty j (ig j)) (by rw [hcl]) ⟨hin, hin, nm_r (e' := upd cs j (fr j)) (by rw [hcl]) (nm_r (nI_1 j) (ih (j + 1) _ _ (by omega) (fun i hi => ?_)))⟩⟩)
    by_cases e : i = j
    · subst e
      exact ⟨pk_us, pk_us⟩
    · rw [pk_un e, pk_un e]
      exact hp i (by omega)
theorem yx_32 {post : Int32 → SY → Prop} {V : Nat → Nat → Int32} {T : Nat → Int32} (hS : zn_S n L c cs ty va) (hH : zf_T bl) (hP : zf_P n F) (hE : zf_E n F fr) (hV : zv_W n c F V) (hT : ∀ r, r < n → F r = r → ∃ t, zg_R bl (zl_o bl c F r n) t ∧ T r = nI t) (hK : ∀ cs ty va ig pe, (∀ i, i < n → cs i = nI (F i)) → (∀ r, r < n → F r = r → ty r = T r ∧ ∀ f, f < 3 → va (3 * r + f) = V r f) → post (nI (zs_m (zr_2 cs) n)) (nI n, gm, bl, cs, ty, va, fr, ig, pe, ke)) : ∀ d j ig, j + d = n → (∀ i, i < j → F i = i → ig i = T i) → wY_unify_32 post (nI n) gm (d + 1) (nI j) bl cs ty va fr ig pe ke := by
  have hn := hS.1
  intro d
  induction d with
  | zero =>
    intro j ig hj hp
    obtain rfl : j = n := by omega
    refine pk_le j j (fun _ => ⟨3 * j + 1, ?_⟩) (fun z => absurd z (by omega))
    refine yk_2 hS hP hE hV (fun va' pe' h => ⟨j + 1, ?_⟩) (3 * j) 0 pe (by omega) (fun r hr e f hf z => absurd z (by omega))
    refine yx_85 hn (fun cs' ty' h2 => hK cs' ty' va' ig pe' (fun i hi => ?_) (fun r hr e => ⟨?_, h r hr e⟩)) j 0 cs ty (by omega) (fun i hi => absurd hi (by omega))
    · rw [(h2 i hi).1]
      exact hE i hi
    · rw [(h2 r hr).2]
      exact hp r hr e
  | succ d ih =>
    intro j ig hj hp
    have hj1 : j < n := by omega
    have hin : vp_in (nI j) 16 := vp_in_nI (by omega) (by omega)
    have hcl : (nI j).toNatClampNeg = j := nI_clamp (by omega)
    have ej : fr (nI j).toNatClampNeg = nI (F j) := by rw [hcl]; exact hE j hj1
    have bj := (hP j hj1).1
    have step : ∀ v, (F j = j → v = T j) → wY_unify_32 post (nI n) gm (d + 1) (nI (j + 1)) bl cs ty va fr (upd ig j v) pe ke := fun v hv => ih (j + 1) _ (by omega) (fun i hi e => by
      by_cases y : i = j
      · subst y
        rw [pk_us]
        exact hv e
      · rw [pk_un y]
        exact hp i (by omega) e)
    refine pk_le n j (fun z => absurd z (by omega)) (fun _ => ?_)
    refine yo_all hS (by omega) hP hE ⟨hin, ?_⟩
    refine pk_eq (F j) j (fun e => ?_) (fun e => ⟨hin, nm_r (e' := upd ig j 0) (by rw [hcl]) (nm_r (nI_1 j) (step 0 (fun y => absurd y e)))⟩) (hx := ej)
    obtain ⟨t, g, eT⟩ := hT j hj1 e
    refine yg_all (fun t' g' => ⟨hin, nm_r (e' := upd ig j (nI t')) (by rw [hcl]) (nm_r (nI_1 j) (step _ (fun _ => ?_)))⟩) (fun g' => absurd g (g' t))
    rw [eT, zg_uniq hH g g']
end
/-! ===== the two agree ===== -/
section
variable {n : Nat} {bl mt c c' : Nat → Int32} {x0 y0 : Nat} {oA oB : Nat → Int32} {F : Nat → Nat}
theorem zu_eq (hn : n ≤ 16) (hI : zm_I n bl c x0 y0 c' 0 oA oB) (hF : zt_I n c x0 y0 F) (hG : zg_G n c x0 y0 F) : ∀ i, i < n → zd_f c' i = F i := by
  intro i hi
  have G' := (zm_end hI hn).1
  have l := zd_lt hn hI.1.1 hi
  have a := hI.2.1 F hG i hi
  have b := hF.2.1 (zd_f c') G' i hi
  have a2 := (hF.1 _ l).1
  have f := (hF.1 i hi).1
  have b2 := zd_le hn hI.1.1 (F i) (by omega)
  omega
theorem zu_low (H : zh_I bl mt) (hn : n ≤ 16) (hI : zm_I n bl c x0 y0 c' 0 oA oB) (e : ∀ i, i < n → zd_f c' i = F i) {r : Nat} (hr : r < n) (rr : c' r = -1) : ∃ t, zg_R bl (zl_o bl c F r n) t ∧ c' (16 + r) = nI t := by
  obtain ⟨t, ht, et⟩ := hI.1.2.1 r hr
  have key : ∀ s, s < 8 → (bt (bl t) s = true ↔ bt (zl_o bl c F r n) s = true) := by
    intro s hs
    have h := hI.2.2.2.2.2.1 r hr rr s hs
    rw [et, nI_clamp (by omega)] at h
    rw [h, zl_bit]
    constructor
    · intro w
      exact ⟨hs, fun p hp ep => w p hp ((e p hp).trans ep)⟩
    · intro w p hp ep
      exact w.2 p hp ((e p hp).symm.trans ep)
  refine ⟨t, ⟨ht, (key t ht).mp (H.1.2.1 t ht), fun s _ w => ?_⟩, et⟩
  have hs := ((zl_bit bl c F r s n).mp w).1
  exact (key s hs).mpr w
theorem zu_no0 (H : zh_I bl mt) (hn : n ≤ 16) (hI : zm_I n bl c x0 y0 c' 0 oA oB) (hF : zt_I n c x0 y0 F) (hG : zg_G n c x0 y0 F) {i : Nat} (hi : i < n) : ¬ zl_o bl c F (F i) n = 0 := by
  intro z
  have e := zu_eq hn hI hF hG
  have l := zd_lt hn hI.1.1 hi
  have rr := zd_isr hn hI.1.1 i hi
  rw [e i hi] at l rr
  obtain ⟨t, g, _⟩ := zu_low H hn hI e l rr
  have := g.2.1
  rw [z, b_0] at this
  exact absurd this (by decide)
theorem zu_0 (hz : zm_F n bl c x0 y0) (hG : zg_G n c x0 y0 F) : ∃ i, i < n ∧ zl_o bl c F (F i) n = 0 := by
  obtain ⟨i, hi, h⟩ := hz
  refine ⟨i, hi, (ba_z _).mpr (fun s _ => ?_)⟩
  cases w : bt (zl_o bl c F (F i) n) s with
  | false => rfl
  | true =>
    have w2 := (zl_bit bl c F (F i) s n).mp w
    obtain ⟨p, hp, ep, no⟩ := h F hG s w2.1
    exact absurd (w2.2 p hp ep) no
theorem zu_V (hn : n ≤ 16) (hx : zx_I n c) (hI : zm_I n bl c x0 y0 c' 0 oA oB) (hF : zt_I n c x0 y0 F) (e : ∀ i, i < n → zd_f c' i = F i) : zv_W n c F (zv_l c') := by
  intro r hr er f hf
  have rr : c' r = -1 := (zd_fix hn hI.1.1 hr).mp ((e r hr).trans er)
  constructor
  · intro h
    have : c' (32 + r * 3 + f) < 0 := by
      refine Classical.byContradiction (fun z => ?_)
      obtain ⟨p, hp, rp, fp, vp⟩ := hI.2.2.2.2.1 r hr rr f hf z
      have h2 := h p hp ((e p hp).symm.trans fp)
      rw [zd_root rp, vp] at h2
      exact z h2
    unfold zv_l
    rw [if_pos this]
  · intro p hp ep j hj w
    have lq := zd_lt hn hx.1 hp
    have hv := (zm_end hI hn).2 (zd_f c p) lq (zd_isr hn hx.1 p hp) f hf (by rw [w]; exact nI_pos (by omega))
    have fq : zd_f c' (zd_f c p) = r := by
      rw [e _ lq, ← hF.2.2.2 p hp]
      exact ep
    rw [fq, w, nI_clamp (by omega)] at hv
    unfold zv_l
    rw [if_neg hv.1, ← hv.2, e j hj, hF.2.2.2 j hj]
end
end
section
/-! ===== reach ===== -/
def zo_s (c : Nat → Int32) (k : Nat) : Nat → Int32
  | 0 => 0
  | f + 1 => if zv_l c k f < 0 then zo_s c k f else zo_s c k f ||| ((1 : Int32) <<< (zv_l c k f &&& 31))
def zr_k (c : Nat → Int32) (s : Int32) : Nat → Int32
  | 0 => s
  | k + 1 => if bt (zr_k c s k) k = true then zr_k c s k ||| zo_s c k 3 else zr_k c s k
def zr_i (c : Nat → Int32) (n : Nat) (s : Int32) : Nat → Int32
  | 0 => s
  | r + 1 => zr_k c (zr_i c n s r) n
/-- a set of standing nodes -/
def zr_S (n : Nat) (c : Nat → Int32) (s : Int32) : Prop := ∀ i, bt s i = true → i < n ∧ c i = -1
theorem zv_c2 {n : Nat} {c : Nat → Int32} (hn : n ≤ 16) (hx : zx_I n c) {r f : Nat} (hr : r < n) (hf : f < 3) : zv_l c r f = -4 ∨ ∃ j, j < n ∧ c j = -1 ∧ zv_l c r f = nI j := by
  unfold zv_l
  rcases hx.2.2 r hr f hf with w | ⟨j, hj, w⟩
  · rw [w, if_pos ba_m1]
    exact Or.inl rfl
  · rw [w, if_neg (nI_pos (by omega)), nI_clamp (by omega)]
    exact Or.inr ⟨_, zd_lt hn hx.1 hj, zd_isr hn hx.1 j hj, rfl⟩
theorem zr_one {n j : Nat} {c : Nat → Int32} (hj : j < n) (hn : n ≤ 16) (r : c j = -1) : zr_S n c ((1 : Int32) <<< (nI j &&& 31)) := by
  intro i hi
  by_cases z : i < 32
  · rw [ba_shl (by omega) z, decide_eq_true_eq] at hi
    subst hi
    exact ⟨hj, r⟩
  · rw [b_big (by omega)] at hi
    exact absurd hi (by decide)
theorem zr_or {n : Nat} {c : Nat → Int32} {s t : Int32} (h1 : zr_S n c s) (h2 : zr_S n c t) : zr_S n c (s ||| t) := by
  intro i hi
  rw [b_or, Bool.or_eq_true] at hi
  exact hi.elim (h1 i) (h2 i)
theorem zo_S {n : Nat} {c : Nat → Int32} (hn : n ≤ 16) (hx : zx_I n c) {k : Nat} (hk : k < n) : ∀ f, f ≤ 3 → zr_S n c (zo_s c k f) := by
  intro f
  induction f with
  | zero =>
    intro _ i hi
    have h : bt (0 : Int32) i = true := hi
    rw [b_0] at h
    exact absurd h (by decide)
  | succ f ih =>
    intro hf
    have h := ih (by omega)
    show zr_S n c (if zv_l c k f < 0 then zo_s c k f else zo_s c k f ||| ((1 : Int32) <<< (zv_l c k f &&& 31)))
    rcases zv_c2 hn hx hk (f := f) (by omega) with e | ⟨j, hj, r, e⟩
    · rw [e, if_pos ba_m4]
      exact h
    · rw [e, if_neg (nI_pos (by omega))]
      exact zr_or h (zr_one hj hn r)
theorem zr_kS {n : Nat} {c : Nat → Int32} {s : Int32} (hn : n ≤ 16) (hx : zx_I n c) (hs : zr_S n c s) : ∀ k, k ≤ n → zr_S n c (zr_k c s k) := by
  intro k
  induction k with
  | zero => intro _; exact hs
  | succ k ih =>
    intro hk
    have h := ih (by omega)
    show zr_S n c (if bt (zr_k c s k) k = true then zr_k c s k ||| zo_s c k 3 else zr_k c s k)
    split
    · exact zr_or h (zo_S hn hx (by omega) 3 (Nat.le_refl _))
    · exact h
theorem zr_iS {n : Nat} {c : Nat → Int32} {s : Int32} (hn : n ≤ 16) (hx : zx_I n c) (hs : zr_S n c s) : ∀ r, zr_S n c (zr_i c n s r) := by
  intro r
  induction r with
  | zero => exact hs
  | succ r ih => exact zr_kS hn hx ih n (Nat.le_refl _)
section
variable {fc fl fm fo : Int32} {bl tr mt c lc lo ml mn oA oB im : Nat → Int32} {n : Nat}
theorem xa_4 {post : Int32 → Prop} {k : Nat} (hn : n ≤ 16) (hx : zx_I n c) (hk : k < n) (h : post (zo_s c k 3)) : ∀ d f, f + d = 3 → wX_valuesOf_4 post (nI k) fc fl fm fo bl tr mt c lc lo ml mn oA oB im (d + 1) (zo_s c k f) (nI f) := by
  intro d
  induction d with
  | zero =>
    intro f hf
    obtain rfl : f = 3 := by omega
    exact pk_le 3 3 (fun _ => h) (fun z => absurd z (by omega))
  | succ d ih =>
    intro f hf
    have hi := ih (f + 1) (by omega)
    refine pk_le 3 f (fun z => absurd z (by omega)) (fun _ => xv_all hn hx hk (by omega) ?_)
    refine br_c (fun z => nm_r (nI_1 f) ?_) (fun z => nm_r (e' := zo_s c k (f + 1)) (if_neg z).symm (nm_r (nI_1 f) hi))
    rw [show zo_s c k (f + 1) = zo_s c k f from if_pos z] at hi
    exact hi
theorem xa_all {post : Int32 → Prop} {k : Nat} (hn : n ≤ 16) (hx : zx_I n c) (hk : k < n) (h : post (zo_s c k 3)) : wpX_valuesOf post (fc, fl, fm, fo, bl, tr, mt, c, lc, lo, ml, mn, oA, oB, im) (nI k) := ⟨4, xa_4 hn hx hk h 3 0 rfl⟩
theorem xr_23 {post : Int32 → Prop} {J13 : Int32 → Int32 → Prop} {s : Int32} {rd : Nat} (hn : n ≤ 16) (hx : zx_I n c) (hJ : J13 (zr_k c s n) (nI (rd + 1))) : ∀ d k, k + d = n → wX_reachSet_23 post J13 (nI rd) (nI n) fl fm fo bl tr mt c lc lo ml mn oA oB im (d + 1) (zr_k c s k) (nI k) := by
  intro d
  induction d with
  | zero =>
    intro k hk
    obtain rfl : k = n := by omega
    exact pk_le k k (fun _ => nm_r (nI_1 rd) hJ) (fun z => absurd z (by omega))
  | succ d ih =>
    intro k hk
    have hi := ih (k + 1) (by omega)
    refine pk_le n k (fun z => absurd z (by omega)) (fun _ => ek_if (ba_has _ (by omega)) (fun z => xa_all hn hx (by omega) (nm_r (e' := zr_k c s (k + 1)) (if_pos z).symm (nm_r (nI_1 k) hi))) (fun z => nm_r (nI_1 k) ?_))
    rw [show zr_k c s (k + 1) = zr_k c s k from if_neg z] at hi
    exact hi
theorem xr_13 {post : Int32 → Prop} {s : Int32} (hn : n ≤ 16) (hx : zx_I n c) (h : post (zr_i c n s 16)) : ∀ d r, r + d = 16 → wX_reachSet_13 post (nI n) fl fm fo bl tr mt c lc lo ml mn oA oB im (d + 1) (zr_i c n s r) (nI r) := by
  intro d
  induction d with
  | zero =>
    intro r hr
    obtain rfl : r = 16 := by omega
    exact pk_le 16 16 (fun _ => h) (fun z => absurd z (by omega))
  | succ d ih =>
    intro r hr
    exact pk_le 16 r (fun z => absurd z (by omega)) (fun _ => ⟨n + 1, xr_23 hn hx (ih (r + 1) (by omega)) n 0 (by omega)⟩)
theorem xr_21 {post : Int32 → Prop} {s : Int32} (h : post (nI (ba_cn s 16))) : ∀ d j, j + d = 16 → wX_reach_21 post s fc fl fm fo bl tr mt c lc lo ml mn oA oB im (d + 1) (nI (ba_cn s j)) (nI j) := by
  intro d
  induction d with
  | zero =>
    intro j hj
    obtain rfl : j = 16 := by omega
    exact pk_le 16 16 (fun _ => h) (fun z => absurd z (by omega))
  | succ d ih =>
    intro j hj
    exact pk_le 16 j (fun z => absurd z (by omega)) (fun _ => nm_r (ba_add_bit s (by omega)) (nm_r (nI_1 j) (ih (j + 1) (by omega))))
theorem xr_all {post : Int32 → Prop} {a : Nat} (hn : n ≤ 16) (hx : zx_I n c) (ha : a < n) (h : post (nI (ba_cn (zr_i c n ((1 : Int32) <<< (nI (zd_f c a) &&& 31)) 16) 16))) : wpX_reach post (nI n, fl, fm, fo, bl, tr, mt, c, lc, lo, ml, mn, oA, oB, im) (nI a) := by
  unfold wpX_reach
  refine xn_0 hn ha ?_
  refine br_t rfl ?_
  unfold wpX_reachSet
  refine xd_all hn hx.1 ha (nm_e ⟨17, ?_⟩)
  exact xr_13 hn hx ⟨17, xr_21 h 16 0 rfl⟩ 16 0 rfl
end
section
variable {gc gm : Int32} {bl cs ty va fr ig pe ke c : Nat → Int32} {n L : Nat}
def zr_h (c : Nat → Int32) (s : Int32) (k f : Nat) : Int32 := if bt (zr_k c s k) k = true then zr_k c s k ||| zo_s c k f else zr_k c s k
theorem zr_h0 (c : Nat → Int32) (s : Int32) (k : Nat) : zr_h c s k 0 = zr_k c s k := by
  unfold zr_h
  split
  · apply b_ext
    intro i _
    rw [b_or]
    show (bt (zr_k c s k) i || bt 0 i) = _
    rw [b_0, Bool.or_false]
  · rfl
theorem zr_h3 (c : Nat → Int32) (s : Int32) (k : Nat) : zr_h c s k 3 = zr_h c s (k + 1) 0 := by
  rw [zr_h0]
  rfl
theorem zr_hb (c : Nat → Int32) (s : Int32) (k f : Nat) : bt (zr_h c s k f) k = true ↔ bt (zr_k c s k) k = true := by
  unfold zr_h
  by_cases z : bt (zr_k c s k) k = true
  · rw [if_pos z, b_or, z]
    simp
  · rw [if_neg z]
theorem yr_30 {post : Int32 → Prop} {J21 : Int32 → Int32 → Prop} {s : Int32} {rd : Nat} (hS : zn_S n L c cs ty va) (hs : zr_S n c s) (hJ : J21 (zr_k c s n) (nI (rd + 1))) : ∀ d k f, 3 * k + f + d = 3 * n → f < 3 → wY_reach_30 post J21 (nI rd) (nI n) gm bl cs ty va fr ig pe ke (d + 1) (zr_h c s k f) (nI (3 * k + f)) := by
  have hn := hS.1
  have hx := hS.2.1
  intro d
  induction d with
  | zero =>
    intro k f hk hf
    obtain rfl : f = 0 := by omega
    obtain rfl : k = n := by omega
    rw [zr_h0]
    exact pk_le (3 * k) (3 * k + 0) (fun _ => nm_r (nI_1 rd) hJ) (fun z => absurd z (by omega)) (hx := ba_3 k)
  | succ d ih =>
    intro k f hk hf
    have hk1 : k < n := by omega
    have next : wY_reach_30 post J21 (nI rd) (nI n) gm bl cs ty va fr ig pe ke (d + 1) (zr_h c s k (f + 1)) (nI (3 * k + f + 1)) := by
      by_cases z : f + 1 < 3
      · exact ih k (f + 1) (by omega) z
      · obtain rfl : f = 2 := by omega
        rw [zr_h3]
        exact ih (k + 1) 0 (by omega) (by omega)
    have hin : vp_in (nI (3 * k + f)) 48 := vp_in_nI (by omega) (by omega)
    have hcl : (nI (3 * k + f)).toNatClampNeg = 3 * k + f := nI_clamp (by omega)
    refine pk_le (3 * n) (3 * k + f) (fun z => absurd z (by omega)) (fun _ => ⟨by decide, ?_⟩) (hx := ba_3 n)
    rw [ba_d3 (by omega), show (3 * k + f) / 3 = k by omega]
    refine yh_as (by omega) (fun z => br_f (by decide) ⟨hin, ?_⟩) (fun z => br_t rfl (nm_r (nI_1 _) ?_))
    · rw [zr_hb] at z
      have hr := (zr_kS hn hx hs k (by omega) k z).2
      have ev := (hS.2.2.2.2 k hk1 hr).2 f hf
      have e1 : zr_h c s k f = zr_k c s k ||| zo_s c k f := if_pos z
      have e2 : zr_h c s k (f + 1) = zr_k c s k ||| zo_s c k (f + 1) := if_pos z
      rw [hcl, ev]
      rcases zv_c2 hn hx hk1 hf with e | ⟨j, hj, _, e⟩
      · refine br_t e (nm_r (nI_1 _) ?_)
        rw [e1]
        rw [e2, show zo_s c k (f + 1) = zo_s c k f from if_pos (by rw [e]; exact ba_m4)] at next
        exact next
      · refine br_f (by rw [e]; exact ba_n4 (by omega)) ⟨hin, nm_r (e' := zr_h c s k (f + 1)) ?_ (nm_r (nI_1 _) next)⟩
        rw [e1, e2, show zo_s c k (f + 1) = zo_s c k f ||| ((1 : Int32) <<< (zv_l c k f &&& 31)) from if_neg (by rw [e]; exact nI_pos (by omega))]
        apply b_ext
        intro i _
        rw [b_or, b_or, b_or, b_or, Bool.or_assoc]
    · have z2 : ¬ bt (zr_k c s k) k = true := fun y => z ((zr_hb c s k f).mpr y)
      rw [show zr_h c s k (f + 1) = zr_h c s k f from (if_neg z2).trans (if_neg z2).symm] at next
      exact next
theorem yr_21 {post : Int32 → Prop} {s : Int32} (hS : zn_S n L c cs ty va) (hs : zr_S n c s) (h : post (nI (ba_cn (zr_i c n s 16) 16))) : ∀ d r, r + d = 16 → wY_reach_21 post (nI n) gm bl cs ty va fr ig pe ke (d + 1) (zr_i c n s r) (nI r) := by
  intro d
  induction d with
  | zero =>
    intro r hr
    obtain rfl : r = 16 := by omega
    exact pk_le 16 16 (fun _ => ys_all h) (fun z => absurd z (by omega))
  | succ d ih =>
    intro r hr
    refine pk_le 16 r (fun z => absurd z (by omega)) (fun _ => ⟨3 * n + 1, ?_⟩)
    have key := yr_30 (post := post) (gm := gm) (bl := bl) (fr := fr) (ig := ig) (pe := pe) (ke := ke) (s := zr_i c n s r) (rd := r) hS (zr_iS hS.1 hS.2.1 hs r) (ih (r + 1) (by omega)) (3 * n) 0 0 (by omega) (by omega)
    rw [zr_h0] at key
    exact key
theorem yr_all {post : Int32 → Prop} {a : Nat} (hS : zn_S n L c cs ty va) (ha : a < n) (h : post (nI (ba_cn (zr_i c n ((1 : Int32) <<< (nI (zd_f c a) &&& 31)) 16) 16))) : wpY_reach post (nI n, gm, bl, cs, ty, va, fr, ig, pe, ke) (nI a) := by
  have hn := hS.1
  have hx := hS.2.1
  unfold wpY_reach
  refine yn_1 hn ha ?_
  refine br_f (by decide) ⟨vp_in_nI (by omega) (by omega), nm_r (e' := (1 : Int32) <<< (nI (zd_f c a) &&& 31)) (by rw [nI_clamp (by omega), hS.2.2.2.1 a ha]) ⟨17, ?_⟩⟩
  exact yr_21 hS (zr_one (zd_lt hn hx.1 ha) hn (zd_isr hn hx.1 a ha)) h 16 0 rfl
end
end
section
/-! ===== subsumes: maps, and the component's walk ===== -/
def zs_t (c : Nat → Int32) (v : Nat) : Nat := (c (16 + v)).toNatClampNeg
/-- h maps a to b, keeps types and values -/
def zs_H (n : Nat) (bl c : Nat → Int32) (a b : Nat) (h : Nat → Option Nat) : Prop := h a = some b ∧ ∀ v w, h v = some w → bt (bl (zs_t c v)) (zs_t c w) = true ∧ ∀ f, f < 3 → ∀ v', v' < n → zv_l c v f = nI v' → ∃ w', w' < n ∧ zv_l c w f = nI w' ∧ h v' = some w'
def zs_R (n : Nat) (c : Nat → Int32) (z : Int32) (im : Nat → Int32) : Prop := ∀ v, v < n → im v = z ∨ (c v = -1 ∧ ∃ w, w < n ∧ c w = -1 ∧ im v = nI w)
def zs_M (n : Nat) (bl c : Nat → Int32) (a b : Nat) (im : Nat → Int32) : Prop := ∀ h, zs_H n bl c a b h → ∀ v, v < n → ∀ w, w < n → im v = nI w → h v = some w
def zs_L (n : Nat) (c im : Nat → Int32) (v w f : Nat) : Prop := ∀ v', v' < n → zv_l c v f = nI v' → ∃ w', w' < n ∧ zv_l c w f = nI w' ∧ im v' = nI w'
theorem zs_mk {n : Nat} {bl c : Nat → Int32} {a b : Nat} {z : Int32} {im : Nat → Int32} (hn : n ≤ 16) (hz : z < 0) (hR : zs_R n c z im) (ha : a < n) (hb : b < n) (e : im a = nI b) (hC : ∀ v, v < n → ∀ w, w < n → im v = nI w → bt (bl (zs_t c v)) (zs_t c w) = true ∧ ∀ f, f < 3 → zs_L n c im v w f) : ∃ h, zs_H n bl c a b h := by
  have key : ∀ v w, v < n → w < n → im v = nI w → (if v < n ∧ ¬ im v < 0 then some (im v).toNatClampNeg else none) = some w := by
    intro v w hv hw e1
    rw [e1, if_pos ⟨hv, nI_pos (by omega)⟩, nI_clamp (by omega)]
  refine ⟨fun v => if v < n ∧ ¬ im v < 0 then some (im v).toNatClampNeg else none, key a b ha hb e, fun v w hvw => ?_⟩
  have hvw' : (if v < n ∧ ¬ im v < 0 then some (im v).toNatClampNeg else none) = some w := hvw
  by_cases y : v < n ∧ ¬ im v < 0
  · rw [if_pos y] at hvw'
    rcases hR v y.1 with q | ⟨_, w2, hw2, _, q⟩
    · rw [q] at y
      exact absurd hz y.2
    · rw [q, nI_clamp (by omega)] at hvw'
      have : w2 = w := Option.some.inj hvw'
      subst this
      obtain ⟨c1, c2⟩ := hC v y.1 w2 hw2 q
      refine ⟨c1, fun f hf v' hv' ev => ?_⟩
      obtain ⟨w', hw', ew, ei⟩ := c2 f hf v' hv' ev
      exact ⟨w', hw', ew, key v' w' hv' hw' ei⟩
  · rw [if_neg y] at hvw'
    exact absurd hvw' (by simp)
theorem zs_setR {n : Nat} {c : Nat → Int32} {z : Int32} {im : Nat → Int32} (hR : zs_R n c z im) {d e : Nat} (rd : c d = -1) (he : e < n) (re : c e = -1) : zs_R n c z (upd im d (nI e)) := by
  intro v hv
  by_cases y : v = d
  · subst y
    rw [pk_us]
    exact Or.inr ⟨rd, e, he, re, rfl⟩
  · rw [pk_un y]
    exact hR v hv
theorem zs_setM {n : Nat} {bl c : Nat → Int32} {a b : Nat} {im : Nat → Int32} (hn : n ≤ 16) (hM : zs_M n bl c a b im) {d e : Nat} (he : e < n) (h : ∀ h, zs_H n bl c a b h → h d = some e) : zs_M n bl c a b (upd im d (nI e)) := by
  intro g hg v hv w hw ev
  by_cases y : v = d
  · subst y
    rw [pk_us] at ev
    rw [h g hg, (nI_eq (by omega) (by omega)).mp ev]
  · rw [pk_un y] at ev
    exact hM g hg v hv w hw ev
def zs_1 (im : Nat → Int32) (i : Nat) : Nat := if im i < 0 then 0 else 1
theorem zs_cnt {n : Nat} {im : Nat → Int32} {d e : Nat} (hd : d < n) (hn : n ≤ 16) (he : e < n) (z : im d < 0) : zs_m (zs_1 (upd im d (nI e))) n = zs_m (zs_1 im) n + 1 := by
  refine sm_bump (k := d) n hd (fun i hi y => ?_) ?_
  · unfold zs_1
    rw [pk_un y]
  · unfold zs_1
    rw [pk_us, if_pos z, if_neg (nI_pos (by omega))]
theorem zs_cb {n : Nat} (im : Nat → Int32) : zs_m (zs_1 im) n ≤ 1 * n := sm_bd n (fun i _ => by unfold zs_1; split <;> omega)
theorem zs_ext {n : Nat} {c im : Nat → Int32} {v w f d : Nat} {e : Int32} (h : zs_L n c im v w f) (z : ∀ w', w' < n → im d ≠ nI w') : zs_L n c (upd im d e) v w f := by
  intro v' hv' ev
  obtain ⟨w', hw', ew, ei⟩ := h v' hv' ev
  refine ⟨w', hw', ew, ?_⟩
  by_cases y : v' = d
  · subst y
    exact absurd ei (z w' hw')
  · rw [pk_un y]
    exact ei
/-- the component's state in subsumes: E v features of v are done -/
def zs_V (n : Nat) (bl c : Nat → Int32) (a b K : Nat) (E : Nat → Nat) (im : Nat → Int32) (op : Nat) (oA oB : Nat → Int32) : Prop := zs_R n c (-1) im ∧ zs_M n bl c a b im ∧ im a = nI b ∧ (∀ v, v < n → ∀ w, w < n → im v = nI w → bt (bl (zs_t c v)) (zs_t c w) = true) ∧ (∀ k, k < op → ∃ v w, v < n ∧ w < n ∧ oA k = nI v ∧ oB k = nI w ∧ im v = nI w) ∧ (∀ v, v < n → ∀ w, w < n → im v = nI w → (∃ k, k < op ∧ oA k = nI v) ∨ (∀ f, f < 3 → f < E v → zs_L n c im v w f)) ∧ zs_m (zs_1 im) n = K + op
theorem zs_Vpush {n : Nat} {bl c : Nat → Int32} {a b K : Nat} {E : Nat → Nat} {im : Nat → Int32} {op : Nat} {oA oB : Nat → Int32} (hV : zs_V n bl c a b K E im op oA oB) (hn : n ≤ 16) (hb : b < n) {d e : Nat} (hd : d < n) (rd : c d = -1) (he : e < n) (re : c e = -1) (z : im d = -1) (h : ∀ h, zs_H n bl c a b h → h d = some e) (ht : bt (bl (zs_t c d)) (zs_t c e) = true) : zs_V n bl c a b K E (upd im d (nI e)) (op + 1) (upd oA op (nI d)) (upd oB op (nI e)) := by
  obtain ⟨h1, h2, h3, h4, h5, h6, h7⟩ := hV
  have zn : ∀ w', w' < n → im d ≠ nI w' := fun w' hw' y => ba_n1 (n := w') (by omega) (y.symm.trans z)
  have keep : ∀ v w, w < n → im v = nI w → upd im d (nI e) v = nI w := by
    intro v w hw ev
    by_cases y : v = d
    · subst y
      exact absurd ev (zn w hw)
    · rw [pk_un y]
      exact ev
  refine ⟨zs_setR h1 rd he re, zs_setM hn h2 he h, ?_, fun v hv w hw ev => ?_, fun k hk => ?_, fun v hv w hw ev => ?_, ?_⟩
  · by_cases y : a = d
    · subst y
      exact absurd h3 (zn b hb)
    · rw [pk_un y]
      exact h3
  · by_cases y : v = d
    · subst y
      rw [pk_us] at ev
      rw [← (nI_eq (by omega) (by omega)).mp ev]
      exact ht
    · rw [pk_un y] at ev
      exact h4 v hv w hw ev
  · by_cases y : k = op
    · subst y
      exact ⟨d, e, hd, he, pk_us, pk_us, pk_us⟩
    · rw [pk_un y, pk_un y]
      obtain ⟨v, w, hv, hw, e1, e2, e3⟩ := h5 k (by omega)
      exact ⟨v, w, hv, hw, e1, e2, keep v w hw e3⟩
  · by_cases y : v = d
    · subst y
      exact Or.inl ⟨op, by omega, pk_us⟩
    · rw [pk_un y] at ev
      rcases h6 v hv w hw ev with ⟨k, hk, ek⟩ | q
      · exact Or.inl ⟨k, by omega, by rw [pk_un (by omega)]; exact ek⟩
      · exact Or.inr (fun f hf hf2 => zs_ext (q f hf hf2) zn)
  · rw [zs_cnt hd hn he (by rw [z]; exact ba_m1), h7]
    omega
section
variable {fc fl fm fo : Int32} {bl tr mt c lc lo ml mn oA oB im : Nat → Int32} {n : Nat}
theorem xi_u {post : Int32 → Prop} {s t : Nat} (hs : s < 8) (ht : t < 8) (h1 : bt (bl t) s = true → post 1) (h0 : ¬ bt (bl t) s = true → post 0) : wpX_isUnder post (fc, fl, fm, fo, bl, tr, mt, c, lc, lo, ml, mn, oA, oB, im) (nI s) (nI t) := by
  unfold wpX_isUnder
  refine xb_0 hs ?_
  refine br_t rfl ?_
  refine xb_0 ht ?_
  exact br_t rfl ⟨vp_in_nI ht (by omega), ek_if (ba_hasC (by omega) (by omega)) h1 h0⟩
theorem xs_send {post : Int32 → SX → Prop} {v w op : Nat} (hn : n ≤ 16) (hx : zx_I n c) (hv : v < n) (hw : w < n) (hR : zs_R n c (-1) im) (ho : op < 64) (hA : im v = -1 → bt (bl (zs_t c v)) (zs_t c w) = true → post 1 (fc, fl, fm, nI (op + 1), bl, tr, mt, c, lc, lo, ml, mn, upd oA op (nI v), upd oB op (nI w), upd im v (nI w))) (hB : im v = -1 → ¬ bt (bl (zs_t c v)) (zs_t c w) = true → post 0 (fc, fl, fm, nI (op + 1), bl, tr, mt, c, lc, lo, ml, mn, upd oA op (nI v), upd oB op (nI w), upd im v (nI w))) (hC : im v = nI w → post 1 (fc, fl, fm, nI op, bl, tr, mt, c, lc, lo, ml, mn, oA, oB, im)) (hD : ∀ w2, w2 < n → im v = nI w2 → w2 ≠ w → post 0 (fc, fl, fm, nI op, bl, tr, mt, c, lc, lo, ml, mn, oA, oB, im)) : wpX_send post (fc, fl, fm, nI op, bl, tr, mt, c, lc, lo, ml, mn, oA, oB, im) (nI v) (nI w) := by
  have hiv : vp_in (nI v) 16 := vp_in_nI (by omega) (by omega)
  have hcv : (nI v).toNatClampNeg = v := nI_clamp (by omega)
  obtain ⟨tv, htv8, htv⟩ := hx.2.1 v hv
  obtain ⟨tw, htw8, htw⟩ := hx.2.1 w hw
  have e1 : zs_t c v = tv := by unfold zs_t; rw [htv, nI_clamp (by omega)]
  have e2 : zs_t c w = tw := by unfold zs_t; rw [htw, nI_clamp (by omega)]
  have f1 : c (16 + nI v).toNatClampNeg = nI tv := by rw [ba_16, nI_clamp (by omega), htv]
  have f2 : c (16 + nI w).toNatClampNeg = nI tw := by rw [ba_16, nI_clamp (by omega), htw]
  rw [e1, e2] at hA hB
  refine ⟨hiv, ?_⟩
  rcases hR v hv with z | ⟨_, w2, hw2, _, z⟩
  · refine br_t (by rw [hcv, z]; exact ba_m1) ⟨hiv, nm_r (e' := upd im v (nI w)) (by rw [hcv]) ?_⟩
    refine xk_all ho ⟨pk_in (16 + w) 80 (by omega) (ba_16 w), pk_in (16 + v) 80 (by omega) (ba_16 v), ?_⟩
    rw [f1, f2]
    exact xi_u htw8 htv8 (fun q => ⟨narrow_b1, hA z q⟩) (fun q => ⟨narrow_b0, hB z q⟩)
  · refine br_f (by rw [hcv, z]; exact nI_pos (by omega)) ⟨hiv, ?_⟩
    refine pk_eq w2 w (fun q => hC (by rw [z, q])) (fun q => hD w2 hw2 z q) (hx := by rw [hcv]; exact z)
theorem xs_z {post : Int32 → SX → Prop} {x1 x2 x4 : Int32} {k : Nat} (h : post 0 (fc, fl, fm, fo, bl, tr, mt, c, lc, lo, ml, mn, oA, oB, im)) : wX_sendValues_5 post x1 x2 (k + 1) 0 x4 fc fl fm fo bl tr mt c lc lo ml mn oA oB im := br_c (fun _ => ⟨narrow_b0, h⟩) (fun _ => br_t rfl ⟨narrow_b0, h⟩)
/-- features done: f of v0, all of the others -/
def zs_e (v0 f : Nat) : Nat → Nat := fun u => if u = v0 then f else 3
theorem xs_5 {post : Int32 → SX → Prop} {a b K v0 w0 : Nat} (hn : n ≤ 16) (hx : zx_I n c) (hb : b < n) (hv0 : v0 < n) (hw0 : w0 < n) (hK0 : ∀ op oA oB im, (∀ h, ¬ zs_H n bl c a b h) → post 0 (fc, fl, fm, nI op, bl, tr, mt, c, lc, lo, ml, mn, oA, oB, im)) (hK1 : ∀ op oA oB im, zs_V n bl c a b K (fun _ => 3) im op oA oB → post 1 (fc, fl, fm, nI op, bl, tr, mt, c, lc, lo, ml, mn, oA, oB, im)) : ∀ d f op oA oB im, f + d = 3 → im v0 = nI w0 → zs_V n bl c a b K (zs_e v0 f) im op oA oB → wX_sendValues_5 post (nI v0) (nI w0) (d + 1) 1 (nI f) fc fl fm (nI op) bl tr mt c lc lo ml mn oA oB im := by
  intro d
  induction d with
  | zero =>
    intro f op oA oB im hf e0 hV
    obtain rfl : f = 3 := by omega
    have ee : zs_e v0 3 = fun _ => 3 := by
      funext u
      unfold zs_e
      split <;> rfl
    rw [ee] at hV
    exact pk_le 3 3 (fun _ => ⟨narrow_b1, hK1 op oA oB im hV⟩) (fun z => absurd z (by omega))
  | succ d ih =>
    intro f op oA oB im hf e0 hV
    have hcb := zs_cb (n := n) im
    have ho : op ≤ 16 := by have := hV.2.2.2.2.2.2; omega
    -- one more feature of v0 is done
    have adv : ∀ im' op' oA' oB', zs_V n bl c a b K (zs_e v0 f) im' op' oA' oB' → (im' v0 = nI w0) → zs_L n c im' v0 w0 f → zs_V n bl c a b K (zs_e v0 (f + 1)) im' op' oA' oB' := by
      intro im' op' oA' oB' h' h0 hL
      obtain ⟨h1, h2, h3, h4, h5, h6, h7⟩ := h'
      refine ⟨h1, h2, h3, h4, h5, fun v hv w hw ev => ?_, h7⟩
      rcases h6 v hv w hw ev with q | q
      · exact Or.inl q
      · refine Or.inr (fun g hg hg2 => ?_)
        by_cases y : v = v0
        · subst y
          by_cases y2 : g = f
          · subst y2
            have : w = w0 := (nI_eq (by omega) (by omega)).mp (ev.symm.trans h0)
            rw [this]
            exact hL
          · refine q g hg ?_
            unfold zs_e at hg2 ⊢
            rw [if_pos rfl] at hg2 ⊢
            omega
        · refine q g hg ?_
          unfold zs_e
          rw [if_neg y]
          exact hg
    refine pk_le 3 f (fun z => absurd z (by omega)) (fun _ => br_f (by decide) (xv_all hn hx hv0 (by omega) ?_))
    rcases zv_c2 hn hx hv0 (f := f) (by omega) with e | ⟨v', hv', rv', e⟩
    · rw [e]
      refine br_t ba_m4 (nm_r (nI_1 f) (ih (f + 1) op oA oB im (by omega) e0 (adv im op oA oB hV e0 (fun v' hv' y => ?_))))
      rw [e] at y
      exact absurd y.symm (ba_n4 (by omega))
    · rw [e]
      refine br_f (nI_pos (by omega)) (xv_all hn hx hw0 (by omega) ?_)
      -- what every map must do here
      have must : ∀ h, zs_H n bl c a b h → ∃ w', w' < n ∧ zv_l c w0 f = nI w' ∧ h v' = some w' := fun h hh => (hh.2 v0 w0 (hV.2.1 h hh v0 hv0 w0 hw0 e0)).2 f (by omega) v' hv' e
      rcases zv_c2 hn hx hw0 (f := f) (by omega) with e2 | ⟨w', hw', rw', e2⟩
      · rw [e2]
        refine br_t ba_m4 (br_t rfl (nm_r (nI_1 f) (xs_z (hK0 op oA oB im (fun h hh => ?_)))))
        obtain ⟨w', hw', y, _⟩ := must h hh
        rw [e2] at y
        exact absurd y.symm (ba_n4 (by omega))
      · rw [e2]
        have must2 : ∀ h, zs_H n bl c a b h → h v' = some w' := by
          intro h hh
          obtain ⟨w2, hw2, y, y2⟩ := must h hh
          rw [e2] at y
          rw [y2, (nI_eq (by omega) (by omega)).mp y]
        have hLx : ∀ im', im' v' = nI w' → zs_L n c im' v0 w0 f := by
          intro im' y u hu eu
          rw [e] at eu
          have : v' = u := (nI_eq (by omega) (by omega)).mp eu
          rw [← this]
          exact ⟨w', hw', e2, y⟩
        refine br_f (nI_pos (by omega)) (br_f (by decide) (xs_send hn hx hv' hw' hV.1 (by omega) (fun z q => nm_r (nI_1 f) ?_) (fun z q => nm_r (nI_1 f) (xs_z (hK0 _ _ _ _ (fun h hh => q (hh.2 v' w' (must2 h hh)).1)))) (fun z => nm_r (nI_1 f) (ih (f + 1) op oA oB im (by omega) e0 (adv im op oA oB hV e0 (hLx im z)))) (fun w2 hw2 z q => nm_r (nI_1 f) (xs_z (hK0 _ _ _ _ (fun h hh => q ?_))))))
        · have nv : v0 ≠ v' := by
            intro y
            rw [← y, e0] at z
            exact ba_n1 (by omega) z
          have e0' : upd im v' (nI w') v0 = nI w0 := by rw [pk_un nv]; exact e0
          exact ih (f + 1) _ _ _ _ (by omega) e0' (adv _ _ _ _ (zs_Vpush hV hn hb hv' rv' hw' rw' z must2 q) e0' (hLx _ pk_us))
        · have y1 := hV.2.1 h hh v' hv' w2 hw2 z
          rw [must2 h hh] at y1
          exact (Option.some.inj y1).symm
theorem xs_69z {post : Int32 → SX → Prop} {x6 : Int32} {k : Nat} (h : post 0 (fc, fl, fm, fo, bl, tr, mt, c, lc, lo, ml, mn, oA, oB, im)) : wX_subsumes_69 post (k + 1) 0 x6 fc fl fm fo bl tr mt c lc lo ml mn oA oB im := br_c (fun _ => ⟨narrow_b0, h⟩) (fun _ => br_c (fun _ => ⟨narrow_b0, h⟩) (fun _ => br_t rfl ⟨narrow_b0, h⟩))
theorem xs_69 {post : Int32 → SX → Prop} {a b : Nat} (hn : n ≤ 16) (hx : zx_I n c) (ha : a < n) (hb : b < n) (hK0 : ∀ op oA oB im, (∀ h, ¬ zs_H n bl c a b h) → post 0 (fc, fl, fm, nI op, bl, tr, mt, c, lc, lo, ml, mn, oA, oB, im)) (hK1 : ∀ op oA oB im, (∃ h, zs_H n bl c a b h) → post 1 (fc, fl, fm, nI op, bl, tr, mt, c, lc, lo, ml, mn, oA, oB, im)) : ∀ d rd op oA oB im, rd + d = 16 → zs_V n bl c a b rd (fun _ => 3) im op oA oB → wX_subsumes_69 post (d + 1) 1 (nI rd) fc fl fm (nI op) bl tr mt c lc lo ml mn oA oB im := by
  intro d
  induction d with
  | zero =>
    intro rd op oA oB im hr hV
    have hcb := zs_cb (n := n) im
    have h7 := hV.2.2.2.2.2.2
    obtain rfl : op = 0 := by omega
    refine pk_le 16 rd (fun _ => ⟨narrow_b1, hK1 0 oA oB im (zs_mk hn ba_m1 hV.1 ha hb hV.2.2.1 (fun v hv w hw ev => ⟨hV.2.2.2.1 v hv w hw ev, fun f hf => ?_⟩))⟩) (fun z => absurd z (by omega))
    rcases hV.2.2.2.2.2.1 v hv w hw ev with ⟨k, hk, _⟩ | q
    · exact absurd hk (by omega)
    · exact q f hf hf
  | succ d ih =>
    intro rd op oA oB im hr hV
    have hcb := zs_cb (n := n) im
    have h7 := hV.2.2.2.2.2.2
    refine pk_le 16 rd (fun z => absurd z (by omega)) (fun _ => ?_)
    cases op with
    | zero =>
      refine br_t (by decide) ⟨narrow_b1, hK1 0 oA oB im (zs_mk hn ba_m1 hV.1 ha hb hV.2.2.1 (fun v hv w hw ev => ⟨hV.2.2.2.1 v hv w hw ev, fun f hf => ?_⟩))⟩
      rcases hV.2.2.2.2.2.1 v hv w hw ev with ⟨k, hk, _⟩ | q
      · exact absurd hk (by omega)
      · exact q f hf hf
    | succ op =>
      have hin : vp_in (nI op) 64 := vp_in_nI (by omega) (by omega)
      obtain ⟨v0, w0, hv0, hw0, eA, eB, e0⟩ := hV.2.2.2.2.1 op (by omega)
      have eA' : oA (nI op).toNatClampNeg = nI v0 := by rw [nI_clamp (by omega)]; exact eA
      have eB' : oB (nI op).toNatClampNeg = nI w0 := by rw [nI_clamp (by omega)]; exact eB
      refine br_f (nI_nle (by omega) (by omega)) (br_f (by decide) (nm_r (nI_pred op) ⟨hin, hin, ?_⟩))
      rw [eA', eB']
      refine ⟨4, xs_5 (K := rd + 1) hn hx hb hv0 hw0 (fun op' oA' oB' im' no => nm_r (nI_1 rd) (xs_69z (hK0 op' oA' oB' im' no))) (fun op' oA' oB' im' hV' => nm_r (nI_1 rd) (ih (rd + 1) op' oA' oB' im' (by omega) hV')) 3 0 op oA oB im rfl e0 ?_⟩
      obtain ⟨h1, h2, h3, h4, h5, h6, _⟩ := hV
      refine ⟨h1, h2, h3, h4, fun k hk => h5 k (by omega), fun v hv w hw ev => ?_, by omega⟩
      by_cases y : v = v0
      · refine Or.inr (fun f hf hf2 => ?_)
        unfold zs_e at hf2
        rw [if_pos y] at hf2
        exact absurd hf2 (by omega)
      · rcases h6 v hv w hw ev with ⟨k, hk, ek⟩ | q
        · refine Or.inl ⟨k, ?_, ek⟩
          have : k ≠ op := by
            intro z
            rw [z, eA] at ek
            exact y ((nI_eq (by omega) (by omega)).mp ek).symm
          omega
        · exact Or.inr (fun f hf _ => q f hf hf)
theorem xs_20 {post : Int32 → SX → Prop} {x y : Nat} (hn : n ≤ 16) (hx : zx_I n c) (hx1 : x < n) (hy1 : y < n) (hK0 : ∀ op oA oB im, (∀ h, ¬ zs_H n bl c (zd_f c x) (zd_f c y) h) → post 0 (fc, fl, fm, nI op, bl, tr, mt, c, lc, lo, ml, mn, oA, oB, im)) (hK1 : ∀ op oA oB im, (∃ h, zs_H n bl c (zd_f c x) (zd_f c y) h) → post 1 (fc, fl, fm, nI op, bl, tr, mt, c, lc, lo, ml, mn, oA, oB, im)) : ∀ d j im, j + d = 16 → (∀ i, i < j → im i = -1) → wX_subsumes_20 post (nI x) (nI y) fc fl fm fo (d + 1) (nI j) bl tr mt c lc lo ml mn oA oB im := by
  intro d
  induction d with
  | zero =>
    intro j im hj hp
    have la := zd_lt hn hx.1 hx1
    have lb := zd_lt hn hx.1 hy1
    have ra := zd_isr hn hx.1 x hx1
    have rb := zd_isr hn hx.1 y hy1
    have im1 : ∀ i, i < n → im i = -1 := fun i hi => hp i (by omega)
    have cz : zs_m (zs_1 im) n = 0 := by
      have h : zs_m (zs_1 im) n ≤ 0 * n := sm_bd n (fun i hi => by unfold zs_1; rw [im1 i hi, if_pos ba_m1]; exact Nat.le_refl _)
      omega
    have hR : zs_R n c (-1) im := fun v hv => Or.inl (im1 v hv)
    refine pk_le 16 j (fun _ => ?_) (fun z => absurd z (by omega))
    refine xd_all hn hx.1 hx1 (xd_all hn hx.1 hy1 ?_)
    refine xs_send (op := 0) hn hx la lb hR (by omega) (fun z q => ⟨17, ?_⟩) (fun z q => ⟨17, xs_69z (hK0 1 _ _ _ (fun h hh => q (hh.2 _ _ hh.1).1))⟩) (fun z => absurd ((im1 _ la).symm.trans z).symm (ba_n1 (by omega))) (fun w2 hw2 z _ => absurd ((im1 _ la).symm.trans z).symm (ba_n1 (by omega)))
    refine xs_69 hn hx la lb hK0 hK1 16 0 1 _ _ _ rfl ?_
    refine ⟨zs_setR hR ra lb rb, zs_setM hn (fun g hg v hv w hw ev => absurd ((im1 _ hv).symm.trans ev).symm (ba_n1 (by omega))) lb (fun h hh => hh.1), pk_us, fun v hv w hw ev => ?_, fun k hk => ?_, fun v hv w hw ev => ?_, ?_⟩
    · by_cases e : v = zd_f c x
      · subst e
        rw [pk_us] at ev
        rw [← (nI_eq (by omega) (by omega)).mp ev]
        exact q
      · rw [pk_un e] at ev
        exact absurd ((im1 _ hv).symm.trans ev).symm (ba_n1 (by omega))
    · obtain rfl : k = 0 := by omega
      exact ⟨_, _, la, lb, pk_us, pk_us, pk_us⟩
    · by_cases e : v = zd_f c x
      · subst e
        exact Or.inl ⟨0, by omega, pk_us⟩
      · rw [pk_un e] at ev
        exact absurd ((im1 _ hv).symm.trans ev).symm (ba_n1 (by omega))
    · rw [zs_cnt la hn lb (by rw [im1 _ la]; exact ba_m1), cz]
  | succ d ih =>
    intro j im hj hp
    refine pk_le 16 j (fun z => absurd z (by omega)) (fun _ => ⟨vp_in_nI (by omega) (by omega), nm_r (e' := upd im j (-1)) (by rw [nI_clamp (by omega)]) (nm_r (nI_1 j) (ih (j + 1) _ (by omega) (fun i hi => ?_)))⟩)
    by_cases e : i = j
    · subst e
      exact pk_us
    · rw [pk_un e]
      exact hp i (by omega)
theorem xs_all2 {post : Int32 → SX → Prop} {x y : Nat} (hn : n ≤ 16) (hx : zx_I n c) (hx1 : x < n) (hy1 : y < n) (hK0 : ∀ op oA oB im, (∀ h, ¬ zs_H n bl c (zd_f c x) (zd_f c y) h) → post 0 (nI n, fl, fm, nI op, bl, tr, mt, c, lc, lo, ml, mn, oA, oB, im)) (hK1 : ∀ op oA oB im, (∃ h, zs_H n bl c (zd_f c x) (zd_f c y) h) → post 1 (nI n, fl, fm, nI op, bl, tr, mt, c, lc, lo, ml, mn, oA, oB, im)) : wpX_subsumes post (nI n, fl, fm, fo, bl, tr, mt, c, lc, lo, ml, mn, oA, oB, im) (nI x) (nI y) := by
  unfold wpX_subsumes
  refine xn_0 hn hx1 ?_
  refine br_t rfl ?_
  refine xn_0 hn hy1 ?_
  exact br_t rfl ⟨17, xs_20 hn hx hx1 hy1 hK0 hK1 16 0 im rfl (fun i hi => absurd hi (by omega))⟩
end
end
section
/-! ===== subsumes: the reference's walk ===== -/
def zs_Y (n : Nat) (bl c : Nat → Int32) (a b : Nat) (ig : Nat → Int32) : Prop := zs_R n c (-4) ig ∧ zs_M n bl c a b ig ∧ ig a = nI b
def zs_Q (n : Nat) (ig0 ig : Nat → Int32) (D : Prop) : Prop := (ig = ig0 ∧ D) ∨ zs_m (zs_1 ig0) n < zs_m (zs_1 ig) n
theorem zs_Qm {n : Nat} {ig0 ig : Nat → Int32} {D D' : Prop} (h : zs_Q n ig0 ig D) (hD : ig = ig0 → D → D') : zs_Q n ig0 ig D' := by
  rcases h with ⟨e, d⟩ | h
  · exact Or.inl ⟨e, hD e d⟩
  · exact Or.inr h
theorem zs_Ql {n : Nat} {ig0 ig : Nat → Int32} {D : Prop} (h : zs_Q n ig0 ig D) : zs_m (zs_1 ig0) n ≤ zs_m (zs_1 ig) n := by
  rcases h with ⟨e, _⟩ | h
  · rw [e]
    exact Nat.le_refl _
  · omega
theorem zs_un {f : Nat → Int32} {k : Nat} {x : Int32} (h : f k = x) : upd f k x = f := by
  funext i
  by_cases e : i = k
  · subst e
    rw [pk_us, h]
  · rw [pk_un e]
section
variable {gc gm : Int32} {bl cs ty va fr ig pe ke c : Nat → Int32} {n L : Nat}
theorem yc_35 {post : Int32 → SY → Prop} {a b v w : Nat} {ig0 : Nat → Int32} (hS : zn_S n L c cs ty va) (hb : b < n) (hv : v < n) (rv : c v = -1) (hw : w < n) (rw1 : c w = -1) (must : ∀ h, zs_H n bl c a b h → h v = some w) (hK0 : ∀ ig, (∀ h, ¬ zs_H n bl c a b h) → post 0 (nI n, gm, bl, cs, ty, va, fr, ig, pe, ke)) (hK1 : ∀ ig, zs_Y n bl c a b ig → zs_Q n ig0 ig (∀ f, f < 3 → zs_L n c ig0 v w f) → post 1 (nI n, gm, bl, cs, ty, va, fr, ig, pe, ke)) : ∀ d f ig, f + d = 3 → zs_Y n bl c a b ig → zs_Q n ig0 ig (∀ g, g < f → zs_L n c ig0 v w g) → wY_carryOn_35 post (nI v) (nI w) (nI n) gm (d + 1) (nI f) bl cs ty va fr ig pe ke := by
  have hn := hS.1
  have hx := hS.2.1
  intro d
  induction d with
  | zero =>
    intro f ig hf hY hQ
    obtain rfl : f = 3 := by omega
    exact pk_le 3 3 (fun _ => hK1 ig hY hQ) (fun z => absurd z (by omega))
  | succ d ih =>
    intro f ig hf hY hQ
    have hf3 : f < 3 := by omega
    have ev := (hS.2.2.2.2 v hv rv).2 f hf3
    have ew := (hS.2.2.2.2 w hw rw1).2 f hf3
    have next : ∀ ig', zs_Y n bl c a b ig' → zs_Q n ig0 ig' (∀ g, g < f → zs_L n c ig0 v w g) → (ig' = ig0 → zs_L n c ig0 v w f) → wY_carryOn_35 post (nI v) (nI w) (nI n) gm (d + 1) (nI (f + 1)) bl cs ty va fr ig' pe ke := fun ig' hY' hQ' z => ih (f + 1) ig' (by omega) hY' (zs_Qm hQ' (fun e D g hg => by
      by_cases y : g = f
      · rw [y]; exact z e
      · exact D g (by omega)))
    refine pk_le 3 f (fun z => absurd z (by omega)) (fun _ => ⟨pk_in (3 * v + f) 48 (by omega) (ba_y3 v f), nm_r (e' := zv_l c v f) (by rw [ba_y3, nI_clamp (by omega), ev]) ⟨pk_in (3 * w + f) 48 (by omega) (ba_y3 w f), nm_r (e' := zv_l c w f) (by rw [ba_y3, nI_clamp (by omega), ew]) ?_⟩⟩)
    rcases zv_c2 hn hx hv hf3 with e | ⟨v', hv', rv', e⟩
    · rw [e]
      refine br_t rfl (nm_r (nI_1 f) (next ig hY hQ (fun _ v' hv' y => ?_)))
      rw [e] at y
      exact absurd y.symm (ba_n4 (by omega))
    · rw [e]
      refine br_f (ba_n4 (by omega)) ?_
      have must1 : ∀ h, zs_H n bl c a b h → ∃ w', w' < n ∧ zv_l c w f = nI w' ∧ h v' = some w' := fun h hh => (hh.2 v w (must h hh)).2 f hf3 v' hv' e
      rcases zv_c2 hn hx hw hf3 with e2 | ⟨w', hw', rw', e2⟩
      · rw [e2]
        refine br_t rfl (hK0 ig (fun h hh => ?_))
        obtain ⟨w', hw', y, _⟩ := must1 h hh
        rw [e2] at y
        exact absurd y.symm (ba_n4 (by omega))
      · rw [e2]
        have must2 : ∀ h, zs_H n bl c a b h → h v' = some w' := by
          intro h hh
          obtain ⟨w2, hw2, y, y2⟩ := must1 h hh
          rw [e2] at y
          rw [y2, (nI_eq (by omega) (by omega)).mp y]
        have hLx : ∀ im', im' v' = nI w' → zs_L n c im' v w f := by
          intro im' y u hu eu
          rw [e] at eu
          have : v' = u := (nI_eq (by omega) (by omega)).mp eu
          rw [← this]
          exact ⟨w', hw', e2, y⟩
        have hin : vp_in (nI v') 16 := vp_in_nI (by omega) (by omega)
        have hcl : (nI v').toNatClampNeg = v' := nI_clamp (by omega)
        refine br_f (ba_n4 (by omega)) ⟨hin, ?_⟩
        rcases hY.1 v' hv' with z | ⟨_, w2, hw2, _, z⟩
        · refine br_t (by rw [hcl]; exact z) ⟨hin, nm_r (e' := upd ig v' (nI w')) (by rw [hcl]) (nm_r (nI_1 f) (next _ ⟨zs_setR hY.1 rv' hw' rw', zs_setM hn hY.2.1 hw' must2, ?_⟩ (Or.inr ?_) (fun y => ?_)))⟩
          · by_cases y : a = v'
            · subst y
              exact absurd (hY.2.2.symm.trans z) (ba_n4 (by omega))
            · rw [pk_un y]
              exact hY.2.2
          · rw [zs_cnt hv' hn hw' (by rw [z]; exact ba_m4)]
            have := zs_Ql hQ
            omega
          · exact hLx ig0 (by rw [← y, pk_us])
        · refine br_f (by rw [hcl, z]; exact ba_n4 (by omega)) ⟨hin, ?_⟩
          refine pk_eq w2 w' (fun q => ⟨hin, nm_r (e' := ig) (by rw [hcl]; exact zs_un (by rw [z, q])) (nm_r (nI_1 f) (next ig hY hQ (fun y => hLx ig0 (by rw [← y, z, q]))))⟩) (fun q => hK0 ig (fun h hh => q ?_)) (hx := by rw [hcl]; exact z)
          have y1 := hY.2.1 h hh v' hv' w2 hw2 z
          rw [must2 h hh] at y1
          exact (Option.some.inj y1).symm
theorem yc_all {post : Int32 → SY → Prop} {a b v w : Nat} (hS : zn_S n L c cs ty va) (hb : b < n) (hv : v < n) (rv : c v = -1) (hw : w < n) (rw1 : c w = -1) (e : ig v = nI w) (hY : zs_Y n bl c a b ig) (hK0 : ∀ ig, (∀ h, ¬ zs_H n bl c a b h) → post 0 (nI n, gm, bl, cs, ty, va, fr, ig, pe, ke)) (hK1 : ∀ ig', zs_Y n bl c a b ig' → bt (bl (zs_t c v)) (zs_t c w) = true → zs_Q n ig ig' (∀ f, f < 3 → zs_L n c ig v w f) → post 1 (nI n, gm, bl, cs, ty, va, fr, ig', pe, ke)) : wpY_carryOn post (nI n, gm, bl, cs, ty, va, fr, ig, pe, ke) (nI v) := by
  have hn := hS.1
  have hx := hS.2.1
  have hiv : vp_in (nI v) 16 := vp_in_nI (by omega) (by omega)
  have hcv : (nI v).toNatClampNeg = v := nI_clamp (by omega)
  have hcw : (nI w).toNatClampNeg = w := nI_clamp (by omega)
  obtain ⟨tv, htv8, htv⟩ := hx.2.1 v hv
  obtain ⟨tw, htw8, htw⟩ := hx.2.1 w hw
  have e1 : zs_t c v = tv := by unfold zs_t; rw [htv, nI_clamp (by omega)]
  have e2 : zs_t c w = tw := by unfold zs_t; rw [htw, nI_clamp (by omega)]
  have f1 : ty v = nI tv := ((hS.2.2.2.2 v hv rv).1).trans htv
  have f2 : ty w = nI tw := ((hS.2.2.2.2 w hw rw1).1).trans htw
  have must : ∀ h, zs_H n bl c a b h → h v = some w := fun h hh => hY.2.1 h hh v hv w hw e
  refine ⟨hiv, nm_r (e' := nI w) (by rw [hcv]; exact e) ⟨hiv, ?_, vp_in_nI (by omega) (by omega), ?_⟩⟩
  · rw [hcv, f1]
    exact vp_in_nI htv8 (by omega)
  · rw [hcv, f1, hcw, f2]
    refine yh_C (by omega) (by omega) (fun q => br_f (by decide) ⟨4, ?_⟩) (fun q => br_t rfl (hK0 ig (fun h hh => q ?_)))
    · exact yc_35 hS hb hv rv hw rw1 must hK0 (fun ig' a1 a2 => hK1 ig' a1 (by rw [e1, e2]; exact q) a2) 3 0 ig rfl hY (Or.inl ⟨rfl, fun g hg => absurd hg (by omega)⟩)
    · have := (hh.2 v w (must h hh)).1
      rw [e1, e2] at this
      exact this
def zs_D (n : Nat) (bl c ig : Nat → Int32) (j : Nat) : Prop := ∀ v, v < j → ∀ w, w < n → ig v = nI w → bt (bl (zs_t c v)) (zs_t c w) = true ∧ ∀ f, f < 3 → zs_L n c ig v w f
theorem yc_70 {post : Int32 → SY → Prop} {a b k rd : Nat} {ig0 : Nat → Int32} (hS : zn_S n L c cs ty va) (hb : b < n) (hK0 : ∀ ig, (∀ h, ¬ zs_H n bl c a b h) → post 0 (nI n, gm, bl, cs, ty, va, fr, ig, pe, ke)) (hJ : ∀ ig, zs_Y n bl c a b ig → zs_Q n ig0 ig (zs_D n bl c ig0 n) → wY_subsumes_61 post k (nI (rd + 1)) (nI n) gm bl cs ty va fr ig pe ke) : ∀ d j ig, j + d = n → zs_Y n bl c a b ig → zs_Q n ig0 ig (zs_D n bl c ig0 j) → wY_subsumes_70 post (wY_subsumes_61 post k) (nI rd) (d + 1) (nI j) (nI n) gm bl cs ty va fr ig pe ke := by
  have hn := hS.1
  intro d
  induction d with
  | zero =>
    intro j ig hj hY hQ
    obtain rfl : j = n := by omega
    exact pk_le j j (fun _ => nm_r (nI_1 rd) (hJ ig hY hQ)) (fun z => absurd z (by omega))
  | succ d ih =>
    intro j ig hj hY hQ
    have hj1 : j < n := by omega
    have hcl : (nI j).toNatClampNeg = j := nI_clamp (by omega)
    have next : ∀ ig', zs_Y n bl c a b ig' → zs_Q n ig0 ig' (zs_D n bl c ig0 j) → (ig' = ig0 → ∀ w, w < n → ig0 j = nI w → bt (bl (zs_t c j)) (zs_t c w) = true ∧ ∀ f, f < 3 → zs_L n c ig0 j w f) → wY_subsumes_70 post (wY_subsumes_61 post k) (nI rd) (d + 1) (nI (j + 1)) (nI n) gm bl cs ty va fr ig' pe ke := fun ig' hY' hQ' z => ih (j + 1) ig' (by omega) hY' (zs_Qm hQ' (fun e D v hv => by
      by_cases y : v = j
      · rw [y]; exact z e
      · exact D v (by omega)))
    refine pk_le n j (fun z => absurd z (by omega)) (fun _ => ⟨vp_in_nI (by omega) (by omega), ?_⟩)
    rcases hY.1 j hj1 with z | ⟨rj, w, hw, rw1, z⟩
    · refine br_t (by rw [hcl]; exact z) (nm_r (nI_1 j) (next ig hY hQ (fun y w hw ev => ?_)))
      rw [← y, z] at ev
      exact absurd ev.symm (ba_n4 (by omega))
    · refine br_f (by rw [hcl, z]; exact ba_n4 (by omega)) ?_
      refine yc_all hS hb hj1 rj hw rw1 z hY (fun ig' no => br_t rfl (hK0 ig' no)) (fun ig' hY' hb1 hQ' => br_f (by decide) (nm_r (nI_1 j) ?_))
      rcases hQ' with ⟨rfl, D⟩ | hlt
      · refine next ig' hY' hQ (fun y w2 hw2 ev => ?_)
        subst y
        have : w = w2 := (nI_eq (by omega) (by omega)).mp (z.symm.trans ev)
        subst this
        exact ⟨hb1, D⟩
      · have hl := zs_Ql hQ
        refine next ig' hY' (Or.inr (by omega)) (fun y => ?_)
        rw [y] at hlt
        exact absurd hlt (by omega)
theorem yc_61 {post : Int32 → SY → Prop} {a b : Nat} (hS : zn_S n L c cs ty va) (ha : a < n) (hb : b < n) (hK0 : ∀ ig, (∀ h, ¬ zs_H n bl c a b h) → post 0 (nI n, gm, bl, cs, ty, va, fr, ig, pe, ke)) (hK1 : ∀ ig, (∃ h, zs_H n bl c a b h) → post 1 (nI n, gm, bl, cs, ty, va, fr, ig, pe, ke)) : ∀ d rd ig, rd + d = 16 → zs_Y n bl c a b ig → ((∃ h, zs_H n bl c a b h) ∨ rd + 1 ≤ zs_m (zs_1 ig) n) → wY_subsumes_61 post (d + 1) (nI rd) (nI n) gm bl cs ty va fr ig pe ke := by
  have hn := hS.1
  intro d
  induction d with
  | zero =>
    intro rd ig hr hY hQ
    have hcb := zs_cb (n := n) ig
    refine pk_le 16 rd (fun _ => hK1 ig ?_) (fun z => absurd z (by omega))
    rcases hQ with q | q
    · exact q
    · exact absurd q (by omega)
  | succ d ih =>
    intro rd ig hr hY hQ
    refine pk_le 16 rd (fun z => absurd z (by omega)) (fun _ => ⟨n + 1, ?_⟩)
    refine yc_70 (ig0 := ig) hS hb hK0 (fun ig' hY' hQ' => ih (rd + 1) ig' (by omega) hY' ?_) n 0 ig (by omega) hY (Or.inl ⟨rfl, fun v hv => absurd hv (by omega)⟩)
    rcases hQ with q | q
    · exact Or.inl q
    · rcases hQ' with ⟨e, D⟩ | q2
      · exact Or.inl (zs_mk hn ba_m4 hY.1 ha hb hY.2.2 D)
      · exact Or.inr (by omega)
theorem yc_20 {post : Int32 → SY → Prop} {x y : Nat} (hS : zn_S n L c cs ty va) (hx1 : x < n) (hy1 : y < n) (hK0 : ∀ ig, (∀ h, ¬ zs_H n bl c (zd_f c x) (zd_f c y) h) → post 0 (nI n, gm, bl, cs, ty, va, fr, ig, pe, ke)) (hK1 : ∀ ig, (∃ h, zs_H n bl c (zd_f c x) (zd_f c y) h) → post 1 (nI n, gm, bl, cs, ty, va, fr, ig, pe, ke)) : ∀ d j ig, j + d = n → (∀ i, i < j → ig i = -4) → wY_subsumes_20 post (nI x) (nI y) (nI n) gm (d + 1) (nI j) bl cs ty va fr ig pe ke := by
  have hn := hS.1
  have hx := hS.2.1
  intro d
  induction d with
  | zero =>
    intro j ig hj hp
    obtain rfl : j = n := by omega
    have la := zd_lt hn hx.1 hx1
    have lb := zd_lt hn hx.1 hy1
    have ra := zd_isr hn hx.1 x hx1
    have rb := zd_isr hn hx.1 y hy1
    have ex : cs (nI x).toNatClampNeg = nI (zd_f c x) := by rw [nI_clamp (by omega)]; exact hS.2.2.2.1 x hx1
    have ey : cs (nI y).toNatClampNeg = nI (zd_f c y) := by rw [nI_clamp (by omega)]; exact hS.2.2.2.1 y hy1
    refine pk_le j j (fun _ => ⟨vp_in_nI (by omega) (by omega), vp_in_nI (by omega) (by omega), pk_in (zd_f c x) 16 (by omega) ex, nm_r (e' := upd ig (zd_f c x) (nI (zd_f c y))) (by rw [ex, ey, nI_clamp (by omega)]) ⟨17, ?_⟩⟩) (fun z => absurd z (by omega))
    refine yc_61 hS la lb hK0 hK1 16 0 _ rfl ⟨zs_setR (fun v hv => Or.inl (hp v hv)) ra lb rb, zs_setM hn (fun g hg v hv w hw ev => absurd ((hp _ hv).symm.trans ev).symm (ba_n4 (by omega))) lb (fun h hh => hh.1), pk_us⟩ (Or.inr ?_)
    rw [zs_cnt la hn lb (by rw [hp _ la]; exact ba_m4)]
    omega
  | succ d ih =>
    intro j ig hj hp
    refine pk_le n j (fun z => absurd z (by omega)) (fun _ => ⟨vp_in_nI (by omega) (by omega), nm_r (e' := upd ig j (-4)) (by rw [nI_clamp (by omega)]) (nm_r (nI_1 j) (ih (j + 1) _ (by omega) (fun i hi => ?_)))⟩)
    by_cases e : i = j
    · subst e
      exact pk_us
    · rw [pk_un e]
      exact hp i (by omega)
theorem yc_fin {post : Int32 → SY → Prop} {x y : Nat} (hS : zn_S n L c cs ty va) (hx1 : x < n) (hy1 : y < n) (hK0 : ∀ ig, (∀ h, ¬ zs_H n bl c (zd_f c x) (zd_f c y) h) → post 0 (nI n, gm, bl, cs, ty, va, fr, ig, pe, ke)) (hK1 : ∀ ig, (∃ h, zs_H n bl c (zd_f c x) (zd_f c y) h) → post 1 (nI n, gm, bl, cs, ty, va, fr, ig, pe, ke)) : wpY_subsumes post (nI n, gm, bl, cs, ty, va, fr, ig, pe, ke) (nI x) (nI y) := by
  have hn := hS.1
  unfold wpY_subsumes
  refine yn_1 hn hx1 ?_
  refine br_f (by decide) ?_
  refine yn_1 hn hy1 ?_
  exact br_f (by decide) ⟨n + 1, yc_20 hS hx1 hy1 hK0 hK1 n 0 ig (by omega) (fun i hi => absurd hi (by omega))⟩
end
end
section
/-! ===== marks: the reference's copies, and the laws ===== -/
theorem ba_81 (m : Nat) : 81 * nI m = nI (81 * m) := by
  show nI 81 * nI m = _
  rw [pk_mul]
theorem ba_a80 (a : Nat) : nI a + 80 = nI (a + 80) := by
  show nI a + nI 80 = _
  rw [nI_add]
theorem ba_a16 (a j : Nat) : (nI a + 16) + nI j = nI (a + 16 + j) := by
  show (nI a + nI 16) + nI j = _
  rw [nI_add, nI_add]
theorem ba_a32 (a j : Nat) : (nI a + 32) + nI j = nI (a + 32 + j) := by
  show (nI a + nI 32) + nI j = _
  rw [nI_add, nI_add]
/-- the copy of mark mc, as far as it is written -/
def zk_W (mc n : Nat) (cs ty va ke0 : Nat → Int32) (j1 j2 : Nat) (ke : Nat → Int32) : Prop := ke (81 * mc + 80) = nI n ∧ (∀ i, i < 81 * mc → ke i = ke0 i) ∧ (∀ i, i < j1 → ke (81 * mc + i) = cs i ∧ ke (81 * mc + 16 + i) = ty i) ∧ (∀ i, i < j2 → ke (81 * mc + 32 + i) = va i)
section
variable {gc gm : Int32} {bl cs ty va fr ig pe ke : Nat → Int32} {n mc : Nat}
theorem yy_80 {post : Int32 → SY → Prop} {ke0 : Nat → Int32} (hm : mc < 6) (hK : ∀ ke, zk_W mc n cs ty va ke0 16 48 ke → post (nI (mc + 1)) (gc, nI (mc + 1), bl, cs, ty, va, fr, ig, pe, ke)) : ∀ d j ke, j + d = 48 → zk_W mc n cs ty va ke0 16 j ke → wY_mark_80 post (nI (81 * mc)) gc (nI mc) (d + 1) (nI j) bl cs ty va fr ig pe ke := by
  intro d
  induction d with
  | zero =>
    intro j ke hj hW
    obtain rfl : j = 48 := by omega
    exact pk_le 48 48 (fun _ => nm_r (nI_1 mc) (hK ke hW)) (fun z => absurd z (by omega))
  | succ d ih =>
    intro j ke hj hW
    obtain ⟨w1, w2, w3, w4⟩ := hW
    refine pk_le 48 j (fun z => absurd z (by omega)) (fun _ => ⟨vp_in_nI (by omega) (by omega), pk_in (81 * mc + 32 + j) 486 (by omega) (ba_a32 _ j), nm_r (e' := upd ke (81 * mc + 32 + j) (va j)) (by rw [ba_a32, nI_clamp (by omega), nI_clamp (by omega)]) (nm_r (nI_1 j) (ih (j + 1) _ (by omega) ⟨?_, fun i hi => ?_, fun i hi => ?_, fun i hi => ?_⟩))⟩)
    · rw [pk_un (by omega)]
      exact w1
    · rw [pk_un (by omega)]
      exact w2 i hi
    · rw [pk_un (by omega), pk_un (by omega)]
      exact w3 i hi
    · by_cases e : i = j
      · rw [e]
        exact pk_us
      · rw [pk_un (by omega)]
        exact w4 i (by omega)
theorem yy_35 {post : Int32 → SY → Prop} {ke0 : Nat → Int32} (hm : mc < 6) (hK : ∀ ke, zk_W mc n cs ty va ke0 16 48 ke → post (nI (mc + 1)) (gc, nI (mc + 1), bl, cs, ty, va, fr, ig, pe, ke)) : ∀ d j ke, j + d = 16 → zk_W mc n cs ty va ke0 j 0 ke → wY_mark_35 post (nI (81 * mc)) gc (nI mc) (d + 1) (nI j) bl cs ty va fr ig pe ke := by
  intro d
  induction d with
  | zero =>
    intro j ke hj hW
    obtain rfl : j = 16 := by omega
    exact pk_le 16 16 (fun _ => ⟨49, yy_80 hm hK 48 0 ke rfl hW⟩) (fun z => absurd z (by omega))
  | succ d ih =>
    intro j ke hj hW
    obtain ⟨w1, w2, w3, w4⟩ := hW
    have hij : vp_in (nI j) 16 := vp_in_nI (by omega) (by omega)
    have hcj : (nI j).toNatClampNeg = j := nI_clamp (by omega)
    refine pk_le 16 j (fun z => absurd z (by omega)) (fun _ => ⟨hij, pk_in (81 * mc + j) 486 (by omega) (nI_add _ j), nm_r (e' := upd ke (81 * mc + j) (cs j)) (by rw [nI_add, nI_clamp (by omega), hcj]) ⟨hij, pk_in (81 * mc + 16 + j) 486 (by omega) (ba_a16 _ j), nm_r (e' := upd (upd ke (81 * mc + j) (cs j)) (81 * mc + 16 + j) (ty j)) (by rw [ba_a16, nI_clamp (by omega), hcj]) (nm_r (nI_1 j) (ih (j + 1) _ (by omega) ⟨?_, fun i hi => ?_, fun i hi => ?_, fun i hi => absurd hi (by omega)⟩))⟩⟩)
    · rw [pk_un (by omega), pk_un (by omega)]
      exact w1
    · rw [pk_un (by omega), pk_un (by omega)]
      exact w2 i hi
    · by_cases e : i = j
      · rw [e, pk_us, pk_un (by omega), pk_us]
        exact ⟨rfl, rfl⟩
      · have q := w3 i (by omega)
        rw [pk_un (by omega), pk_un (by omega), pk_un (by omega), pk_un (by omega)]
        exact q
theorem yy_mark {post : Int32 → SY → Prop} (hm : mc < 6) (hK : ∀ ke', zk_W mc n cs ty va ke 16 48 ke' → post (nI (mc + 1)) (nI n, nI (mc + 1), bl, cs, ty, va, fr, ig, pe, ke')) : wpY_mark post (nI n, nI mc, bl, cs, ty, va, fr, ig, pe, ke) := by
  refine pk_eq mc 6 (fun z => absurd z (by omega)) (fun _ => nm_r (e' := nI (81 * mc)) (ba_81 mc) ⟨pk_in (81 * mc + 80) 486 (by omega) (ba_a80 _), nm_r (e' := upd ke (81 * mc + 80) (nI n)) (by rw [ba_a80, nI_clamp (by omega)]) ⟨17, ?_⟩⟩)
  exact yy_35 (ke0 := ke) hm hK 16 0 _ rfl ⟨pk_us, fun i hi => pk_un (by omega), fun i hi => absurd hi (by omega), fun i hi => absurd hi (by omega)⟩
theorem yy_88 {post : Int32 → SY → Prop} {m : Nat} (hm : m < 6) (hK : ∀ va, (∀ i, i < 48 → va i = ke (81 * m + 32 + i)) → post gm (gc, gm, bl, cs, ty, va, fr, ig, pe, ke)) : ∀ d j va, j + d = 48 → (∀ i, i < j → va i = ke (81 * m + 32 + i)) → wY_back_88 post (nI (81 * m)) gc gm (d + 1) (nI j) bl cs ty va fr ig pe ke := by
  intro d
  induction d with
  | zero =>
    intro j va hj hp
    obtain rfl : j = 48 := by omega
    exact pk_le 48 48 (fun _ => hK va hp) (fun z => absurd z (by omega))
  | succ d ih =>
    intro j va hj hp
    refine pk_le 48 j (fun z => absurd z (by omega)) (fun _ => ⟨pk_in (81 * m + 32 + j) 486 (by omega) (ba_a32 _ j), vp_in_nI (by omega) (by omega), nm_r (e' := upd va j (ke (81 * m + 32 + j))) (by rw [ba_a32, nI_clamp (by omega), nI_clamp (by omega)]) (nm_r (nI_1 j) (ih (j + 1) _ (by omega) (fun i hi => ?_)))⟩)
    by_cases e : i = j
    · rw [e]
      exact pk_us
    · rw [pk_un e]
      exact hp i (by omega)
theorem yy_43 {post : Int32 → SY → Prop} {m : Nat} (hm : m < 6) (hK : ∀ cs ty va, (∀ i, i < 16 → cs i = ke (81 * m + i) ∧ ty i = ke (81 * m + 16 + i)) → (∀ i, i < 48 → va i = ke (81 * m + 32 + i)) → post gm (gc, gm, bl, cs, ty, va, fr, ig, pe, ke)) : ∀ d j cs ty, j + d = 16 → (∀ i, i < j → cs i = ke (81 * m + i) ∧ ty i = ke (81 * m + 16 + i)) → wY_back_43 post (nI (81 * m)) gc gm (d + 1) (nI j) bl cs ty va fr ig pe ke := by
  intro d
  induction d with
  | zero =>
    intro j cs ty hj hp
    obtain rfl : j = 16 := by omega
    exact pk_le 16 16 (fun _ => ⟨49, yy_88 hm (fun va' h => hK cs ty va' hp h) 48 0 va rfl (fun i hi => absurd hi (by omega))⟩) (fun z => absurd z (by omega))
  | succ d ih =>
    intro j cs ty hj hp
    have hij : vp_in (nI j) 16 := vp_in_nI (by omega) (by omega)
    have hcj : (nI j).toNatClampNeg = j := nI_clamp (by omega)
    refine pk_le 16 j (fun z => absurd z (by omega)) (fun _ => ⟨pk_in (81 * m + j) 486 (by omega) (nI_add _ j), hij, nm_r (e' := upd cs j (ke (81 * m + j))) (by rw [nI_add, hcj, nI_clamp (by omega)]) ⟨pk_in (81 * m + 16 + j) 486 (by omega) (ba_a16 _ j), hij, nm_r (e' := upd ty j (ke (81 * m + 16 + j))) (by rw [ba_a16, hcj, nI_clamp (by omega)]) (nm_r (nI_1 j) (ih (j + 1) _ _ (by omega) (fun i hi => ?_)))⟩⟩)
    by_cases e : i = j
    · rw [e]
      exact ⟨pk_us, pk_us⟩
    · rw [pk_un e, pk_un e]
      exact hp i (by omega)
theorem yy_back {post : Int32 → SY → Prop} {m K : Nat} (hm : m < 6) (hk : ke (81 * m + 80) = nI K) (hK : ∀ cs ty va, (∀ i, i < 16 → cs i = ke (81 * m + i) ∧ ty i = ke (81 * m + 16 + i)) → (∀ i, i < 48 → va i = ke (81 * m + 32 + i)) → post (nI m) (nI K, nI m, bl, cs, ty, va, fr, ig, pe, ke)) : wpY_back post (gc, nI (m + 1), bl, cs, ty, va, fr, ig, pe, ke) := by
  refine pk_eq (m + 1) 0 (fun z => absurd z (by omega)) (fun _ => nm_r (nI_pred m) (nm_r (e' := nI (81 * m)) (ba_81 m) ⟨pk_in (81 * m + 80) 486 (by omega) (ba_a80 _), nm_r (e' := nI K) (by rw [ba_a80, nI_clamp (by omega)]; exact hk) ⟨17, ?_⟩⟩))
  exact yy_43 hm hK 16 0 cs ty rfl (fun i hi => absurd hi (by omega))
end
section
variable {n L mc : Nat} {c lc lo ml mn ke cs ty va : Nat → Int32}
theorem zk_0 {n L : Nat} {c lc lo ml mn ke : Nat → Int32} : zk_M n L 0 c lc lo ml mn ke := ⟨fun _ => 0, fun _ => 0, fun i hi => absurd hi (by omega), fun i j _ hj => absurd hj (by omega)⟩
theorem zk_step {L' : Nat} {c' lc' lo' : Nat → Int32} (h : zk_M n L mc c lc lo ml mn ke) (g : zl_G L c lc lo L' c' lc' lo') : zk_M n L' mc c' lc' lo' ml mn ke := by
  obtain ⟨M, K, h1, h2⟩ := h
  refine ⟨M, K, fun i hi => ?_, h2⟩
  obtain ⟨a1, a2, a3, a4, a5, a6⟩ := h1 i hi
  refine ⟨a1, a2, a3, by have := g.1; omega, a5, ?_⟩
  rw [g.2.1 _ a4]
  exact a6
theorem zk_undo {L' : Nat} {c' lc' lo' : Nat → Int32} (h : zk_M n L mc c lc lo ml mn ke) (g : zl_G L c lc lo L' c' lc' lo') : zu_n lc' lo' L L' c' = c ∧ zk_M n L mc c lc' lo' ml mn ke := by
  have e : zu_n lc' lo' L L' c' = c := by
    rw [g.2.1 L (Nat.le_refl _), zu_ge (Nat.le_refl _)]
  refine ⟨e, ?_⟩
  obtain ⟨M, K, h1, h2⟩ := h
  refine ⟨M, K, fun i hi => ?_, h2⟩
  obtain ⟨a1, a2, a3, a4, a5, a6⟩ := h1 i hi
  refine ⟨a1, a2, a3, a4, a5, ?_⟩
  have q : zu_n lc' lo' (M i) L c = zu_n lc lo (M i) L c := by
    have w := zu_comp (lc := lc') (lo := lo') a4 L' g.1 c'
    rw [e] at w
    rw [w]
    exact g.2.1 _ a4
  rw [q]
  exact a6
theorem zk_node {c' : Nat → Int32} (h : zk_M n L mc c lc lo ml mn ke) (e : zn_A n c c') : zk_M (n + 1) L mc c' lc lo ml mn ke := by
  obtain ⟨M, K, h1, h2⟩ := h
  refine ⟨M, K, fun i hi => ?_, h2⟩
  obtain ⟨a1, a2, a3, a4, a5, a6⟩ := h1 i hi
  refine ⟨a1, a2, a3, a4, by omega, zn_congr (fun j hj => ?_) (fun _ _ => rfl) (fun _ _ => rfl) (fun _ _ => rfl) a6⟩
  have q := e j (by omega)
  exact ⟨zu_at L _ _ q.1, zu_at L _ _ q.2.1, fun f hf => zu_at L _ _ (q.2.2 f hf)⟩
theorem zk_keep (h : zk_M n L (mc + 1) c lc lo ml mn ke) : zk_M n L mc c lc lo ml mn ke := by
  obtain ⟨M, K, h1, h2⟩ := h
  exact ⟨M, K, fun i hi => h1 i (by omega), fun i j a b => h2 i j a (by omega)⟩
theorem zk_mark {ke' : Nat → Int32} (h : zk_M n L mc c lc lo ml mn ke) (hS : zn_S n L c cs ty va) (hW : zk_W mc n cs ty va ke 16 48 ke') : zk_M n L (mc + 1) c lc lo (upd ml mc (nI L)) (upd mn mc (nI n)) ke' := by
  obtain ⟨M, K, h1, h2⟩ := h
  obtain ⟨w1, w2, w3, w4⟩ := hW
  have hn := hS.1
  refine ⟨fun i => if i = mc then L else M i, fun i => if i = mc then n else K i, fun i hi => ?_, fun i j hij hj => ?_⟩
  · dsimp only
    by_cases e : i = mc
    · subst e
      rw [if_pos rfl, if_pos rfl, pk_us, pk_us]
      refine ⟨rfl, rfl, w1, Nat.le_refl _, Nat.le_refl _, ?_⟩
      rw [zu_ge (Nat.le_refl _)]
      exact zn_congr (zn_refl n c) (fun j hj => (w3 j (by omega)).1) (fun j hj => (w3 j (by omega)).2) (fun j hj => w4 j (by omega)) hS
    · rw [if_neg e, if_neg e, pk_un e, pk_un e]
      obtain ⟨a1, a2, a3, a4, a5, a6⟩ := h1 i (by omega)
      refine ⟨a1, a2, by rw [w2 _ (by omega)]; exact a3, a4, a5, ?_⟩
      exact zn_congr (zn_refl _ _) (fun j hj => w2 _ (by omega)) (fun j hj => w2 _ (by omega)) (fun j hj => w2 _ (by omega)) a6
  · have e : i ≠ mc := by omega
    dsimp only
    rw [if_neg e, if_neg e]
    by_cases e2 : j = mc
    · rw [if_pos e2, if_pos e2]
      obtain ⟨_, _, _, a4, a5, _⟩ := h1 i (by omega)
      exact ⟨a4, a5⟩
    · rw [if_neg e2, if_neg e2]
      exact h2 i j hij (by omega)
theorem zk_back (h : zk_M n L (mc + 1) c lc lo ml mn ke) : ∃ M K, ml mc = nI M ∧ mn mc = nI K ∧ ke (81 * mc + 80) = nI K ∧ M ≤ L ∧ K ≤ n ∧ zn_S K M (zu_n lc lo M L c) (fun j => ke (81 * mc + j)) (fun j => ke (81 * mc + 16 + j)) (fun j => ke (81 * mc + 32 + j)) ∧ zk_M K M mc (zu_n lc lo M L c) lc lo ml mn ke := by
  obtain ⟨M, K, h1, h2⟩ := h
  obtain ⟨a1, a2, a3, a4, a5, a6⟩ := h1 mc (by omega)
  refine ⟨M mc, K mc, a1, a2, a3, a4, a5, a6, M, K, fun i hi => ?_, fun i j a b => h2 i j a (by omega)⟩
  obtain ⟨b1, b2, b3, b4, b5, b6⟩ := h1 i (by omega)
  obtain ⟨m1, m2⟩ := h2 i mc hi (by omega)
  refine ⟨b1, b2, b3, m1, m2, ?_⟩
  rw [zu_comp m1 L a4]
  exact b6
end
end
section
/-! ===== the relation, and the calls that only look ===== -/
def zr_A (fc fl fm : Int32) (bl mt c lc lo ml mn : Nat → Int32) (gc gm : Int32) (bl' cs ty va ke : Nat → Int32) : Prop := ∃ n L mc : Nat, fc = nI n ∧ fl = nI L ∧ fm = nI mc ∧ gc = nI n ∧ gm = nI mc ∧ bl' = bl ∧ zr_R n L mc bl mt c lc lo ml mn cs ty va ke
/-- the relation at the head of a turn -/
def i_Rel (k : Nat) (u : SX) (v : SY) : Prop := match u with
  | (fc, fl, fm, _, bl, _, mt, c, lc, lo, ml, mn, _, _, _) => match v with
    | (gc, gm, bl', cs, ty, va, _, _, _, ke) => zr_A fc fl fm bl mt c lc lo ml mn gc gm bl' cs ty va ke
theorem zr_in {k n L mc : Nat} {fo : Int32} {bl tr mt c lc lo ml mn oA oB im cs ty va fr ig pe ke : Nat → Int32} (R : zr_R n L mc bl mt c lc lo ml mn cs ty va ke) : i_Rel k (nI n, nI L, nI mc, fo, bl, tr, mt, c, lc, lo, ml, mn, oA, oB, im) (nI n, nI mc, bl, cs, ty, va, fr, ig, pe, ke) := ⟨n, L, mc, rfl, rfl, rfl, rfl, rfl, rfl, R⟩
theorem zz_el {k : Nat} {u : SX} {v : SY} {P : SX → SY → Prop} (h : ∀ (n L mc : Nat) (fo : Int32) (bl tr mt c lc lo ml mn oA oB im cs ty va fr ig pe ke : Nat → Int32), zr_R n L mc bl mt c lc lo ml mn cs ty va ke → P (nI n, nI L, nI mc, fo, bl, tr, mt, c, lc, lo, ml, mn, oA, oB, im) (nI n, nI mc, bl, cs, ty, va, fr, ig, pe, ke)) (I : i_Rel k u v) : P u v := by
  obtain ⟨fc, fl, fm, fo, bl, tr, mt, c, lc, lo, ml, mn, oA, oB, im⟩ := u
  obtain ⟨gc, gm, bl', cs, ty, va, fr, ig, pe, ke⟩ := v
  obtain ⟨n, L, mc, rfl, rfl, rfl, rfl, rfl, rfl, R⟩ := I
  exact h n L mc fo bl' tr mt c lc lo ml mn oA oB im cs ty va fr ig pe ke R
theorem ba_ix (x : Int32) {n : Nat} (hn : n < 2 ^ 31) : (x < 0 ∨ nI n ≤ x) ∨ ∃ j, j < n ∧ x = nI j := by
  rcases pk_ix x hn with z | z | z
  · exact Or.inl (Or.inl z)
  · exact Or.inl (Or.inr z)
  · exact Or.inr z
section
variable {n L mc k : Nat} {fo : Int32} {bl tr mt c lc lo ml mn oA oB im cs ty va fr ig pe ke : Nat → Int32}
theorem wv_isUnder (R : zr_R n L mc bl mt c lc lo ml mn cs ty va ke) (v1 v2 : Int32) : wpX_isUnder (fun r => wpY_isUnder (fun r' => r' = r ∧ i_Rel k (nI n, nI L, nI mc, fo, bl, tr, mt, c, lc, lo, ml, mn, oA, oB, im) (nI n, nI mc, bl, cs, ty, va, fr, ig, pe, ke)) (nI n, nI mc, bl, cs, ty, va, fr, ig, pe, ke) v1 v2) (nI n, nI L, nI mc, fo, bl, tr, mt, c, lc, lo, ml, mn, oA, oB, im) v1 v2 := by
  have hR : i_Rel k (nI n, nI L, nI mc, fo, bl, tr, mt, c, lc, lo, ml, mn, oA, oB, im) (nI n, nI mc, bl, cs, ty, va, fr, ig, pe, ke) := zr_in R
  rcases ba_ix v1 (n := 8) (by omega) with b1 | ⟨a, ha, rfl⟩
  · unfold wpX_isUnder
    refine xb_1 b1 ?_
    refine br_f (by decide) ?_
    unfold wpY_isUnder
    refine yb_0 b1 ?_
    exact br_t rfl ⟨rfl, hR⟩
  · rcases ba_ix v2 (n := 8) (by omega) with b2 | ⟨b, hb, rfl⟩
    · unfold wpX_isUnder
      refine xb_0 ha ?_
      refine br_t rfl ?_
      refine xb_1 b2 ?_
      refine br_f (by decide) ?_
      unfold wpY_isUnder
      refine yb_1 ha ?_
      refine br_f (by decide) ?_
      refine yb_0 b2 ?_
      exact br_t rfl ⟨rfl, hR⟩
    · refine xi_u ha hb (fun z => ?_) (fun z => ?_)
      · unfold wpY_isUnder
        refine yb_1 ha ?_
        refine br_f (by decide) ?_
        refine yb_1 hb ?_
        refine br_f (by decide) ⟨vp_in_nI hb (by omega), ?_⟩
        exact yh_C (by omega) (by omega) (fun y => br_f (by decide) ⟨rfl, hR⟩) (fun y => absurd z y)
      · unfold wpY_isUnder
        refine yb_1 ha ?_
        refine br_f (by decide) ?_
        refine yb_1 hb ?_
        refine br_f (by decide) ⟨vp_in_nI hb (by omega), ?_⟩
        exact yh_C (by omega) (by omega) (fun y => absurd y z) (fun y => br_t rfl ⟨rfl, hR⟩)
theorem wv_meet (R : zr_R n L mc bl mt c lc lo ml mn cs ty va ke) (v1 v2 : Int32) : wpX_meet (fun r => wpY_meet (fun r' => r' = r ∧ i_Rel k (nI n, nI L, nI mc, fo, bl, tr, mt, c, lc, lo, ml, mn, oA, oB, im) (nI n, nI mc, bl, cs, ty, va, fr, ig, pe, ke)) (nI n, nI mc, bl, cs, ty, va, fr, ig, pe, ke) v1 v2) (nI n, nI L, nI mc, fo, bl, tr, mt, c, lc, lo, ml, mn, oA, oB, im) v1 v2 := by
  have hR : i_Rel k (nI n, nI L, nI mc, fo, bl, tr, mt, c, lc, lo, ml, mn, oA, oB, im) (nI n, nI mc, bl, cs, ty, va, fr, ig, pe, ke) := zr_in R
  rcases ba_ix v1 (n := 8) (by omega) with b1 | ⟨a, ha, rfl⟩
  · unfold wpX_meet
    refine xb_1 b1 ?_
    refine br_f (by decide) ?_
    unfold wpY_meet
    refine yb_0 b1 ?_
    exact br_t rfl ⟨rfl, hR⟩
  · rcases ba_ix v2 (n := 8) (by omega) with b2 | ⟨b, hb, rfl⟩
    · unfold wpX_meet
      refine xb_0 ha ?_
      refine br_t rfl ?_
      refine xb_1 b2 ?_
      refine br_f (by decide) ?_
      unfold wpY_meet
      refine yb_1 ha ?_
      refine br_f (by decide) ?_
      refine yb_0 b2 ?_
      exact br_t rfl ⟨rfl, hR⟩
    · unfold wpX_meet
      refine xb_0 ha ?_
      refine br_t rfl ?_
      refine xb_0 hb ?_
      refine br_t rfl ⟨pk_in (a * 8 + b) 64 (by omega) (ba_i8 a b), ?_⟩
      rw [ba_i8, nI_clamp (n := a * 8 + b) (by omega)]
      unfold wpY_meet
      refine yb_1 ha ?_
      refine br_f (by decide) ?_
      refine yb_1 hb ?_
      refine br_f (by decide) ⟨vp_in_nI ha (by omega), vp_in_nI hb (by omega), ?_⟩
      rw [nI_clamp (n := a) (by omega), nI_clamp (n := b) (by omega)]
      have H := R.2.1
      rcases zm_get H ha hb with ⟨e, no⟩ | ⟨t, g, e⟩
      · exact yg_all (fun t g => absurd g (no t)) (fun _ => ⟨e.symm, hR⟩)
      · exact yg_all (fun t' g' => ⟨by rw [e, zg_uniq H.2.1 g g'], hR⟩) (fun no => absurd g (no t))
theorem wv_classOf (R : zr_R n L mc bl mt c lc lo ml mn cs ty va ke) (v1 : Int32) : wpX_classOf (fun r => wpY_classOf (fun r' => r' = r ∧ i_Rel k (nI n, nI L, nI mc, fo, bl, tr, mt, c, lc, lo, ml, mn, oA, oB, im) (nI n, nI mc, bl, cs, ty, va, fr, ig, pe, ke)) (nI n, nI mc, bl, cs, ty, va, fr, ig, pe, ke) v1) (nI n, nI L, nI mc, fo, bl, tr, mt, c, lc, lo, ml, mn, oA, oB, im) v1 := by
  have hR : i_Rel k (nI n, nI L, nI mc, fo, bl, tr, mt, c, lc, lo, ml, mn, oA, oB, im) (nI n, nI mc, bl, cs, ty, va, fr, ig, pe, ke) := zr_in R
  have hS := R.2.2.1
  have hn := hS.1
  rcases ba_ix v1 (n := n) (by omega) with b1 | ⟨a, ha, rfl⟩
  · unfold wpX_classOf
    refine xn_1 b1 ?_
    refine br_f (by decide) ?_
    unfold wpY_classOf
    refine yn_0 b1 ?_
    exact br_t rfl ⟨rfl, hR⟩
  · unfold wpX_classOf
    refine xn_0 hn ha ?_
    refine br_t rfl ?_
    refine xd_all hn hS.2.1.1 ha ?_
    unfold wpY_classOf
    refine yn_1 hn ha ?_
    refine br_f (by decide) ⟨vp_in_nI (by omega) (by omega), ?_, hR⟩
    rw [nI_clamp (by omega)]
    exact hS.2.2.2.1 a ha
theorem wv_typeOf (R : zr_R n L mc bl mt c lc lo ml mn cs ty va ke) (v1 : Int32) : wpX_typeOf (fun r => wpY_typeOf (fun r' => r' = r ∧ i_Rel k (nI n, nI L, nI mc, fo, bl, tr, mt, c, lc, lo, ml, mn, oA, oB, im) (nI n, nI mc, bl, cs, ty, va, fr, ig, pe, ke)) (nI n, nI mc, bl, cs, ty, va, fr, ig, pe, ke) v1) (nI n, nI L, nI mc, fo, bl, tr, mt, c, lc, lo, ml, mn, oA, oB, im) v1 := by
  have hR : i_Rel k (nI n, nI L, nI mc, fo, bl, tr, mt, c, lc, lo, ml, mn, oA, oB, im) (nI n, nI mc, bl, cs, ty, va, fr, ig, pe, ke) := zr_in R
  have hS := R.2.2.1
  have hn := hS.1
  rcases ba_ix v1 (n := n) (by omega) with b1 | ⟨a, ha, rfl⟩
  · unfold wpX_typeOf
    refine xn_1 b1 ?_
    refine br_f (by decide) ?_
    unfold wpY_typeOf
    refine yn_0 b1 ?_
    exact br_t rfl ⟨rfl, hR⟩
  · have la := zd_lt hn hS.2.1.1 ha
    have ea : cs (nI a).toNatClampNeg = nI (zd_f c a) := by rw [nI_clamp (by omega)]; exact hS.2.2.2.1 a ha
    unfold wpX_typeOf
    refine xn_0 hn ha ?_
    refine br_t rfl ?_
    refine xd_all hn hS.2.1.1 ha ⟨pk_in (16 + zd_f c a) 80 (by omega) (ba_16 _), ?_⟩
    unfold wpY_typeOf
    refine yn_1 hn ha ?_
    refine br_f (by decide) ⟨vp_in_nI (by omega) (by omega), pk_in (zd_f c a) 16 (by omega) ea, ?_, hR⟩
    rw [ea, nI_clamp (by omega), ba_16, nI_clamp (by omega)]
    exact (hS.2.2.2.2 _ la (zd_isr hn hS.2.1.1 a ha)).1
theorem wv_value (R : zr_R n L mc bl mt c lc lo ml mn cs ty va ke) (v1 v2 : Int32) : wpX_value (fun r => wpY_value (fun r' => r' = r ∧ i_Rel k (nI n, nI L, nI mc, fo, bl, tr, mt, c, lc, lo, ml, mn, oA, oB, im) (nI n, nI mc, bl, cs, ty, va, fr, ig, pe, ke)) (nI n, nI mc, bl, cs, ty, va, fr, ig, pe, ke) v1 v2) (nI n, nI L, nI mc, fo, bl, tr, mt, c, lc, lo, ml, mn, oA, oB, im) v1 v2 := by
  have hR : i_Rel k (nI n, nI L, nI mc, fo, bl, tr, mt, c, lc, lo, ml, mn, oA, oB, im) (nI n, nI mc, bl, cs, ty, va, fr, ig, pe, ke) := zr_in R
  have hS := R.2.2.1
  have hn := hS.1
  rcases ba_ix v1 (n := n) (by omega) with b1 | ⟨a, ha, rfl⟩
  · unfold wpX_value
    refine xn_1 b1 ?_
    refine br_f (by decide) ?_
    unfold wpY_value
    refine yn_0 b1 ?_
    exact br_t rfl ⟨rfl, hR⟩
  · rcases ba_ix v2 (n := 3) (by omega) with b2 | ⟨f, hf, rfl⟩
    · unfold wpX_value
      refine xn_0 hn ha ?_
      refine br_t rfl ?_
      refine xe_1 b2 ?_
      refine br_f (by decide) ?_
      unfold wpY_value
      refine yn_1 hn ha ?_
      refine br_f (by decide) ?_
      rcases b2 with z | z
      · exact br_t z ⟨rfl, hR⟩
      · refine br_c (fun _ => ⟨rfl, hR⟩) (fun _ => br_t ?_ ⟨rfl, hR⟩)
        exact Int32.lt_of_lt_of_le (by decide) z
    · have la := zd_lt hn hS.2.1.1 ha
      have ea : cs (nI a).toNatClampNeg = nI (zd_f c a) := by rw [nI_clamp (by omega)]; exact hS.2.2.2.1 a ha
      have ix : (3 * cs (nI a).toNatClampNeg) + nI f = nI (3 * zd_f c a + f) := by rw [ea, ba_y3]
      unfold wpX_value
      refine xn_0 hn ha ?_
      refine br_t rfl ?_
      refine xe_0 hf ?_
      refine br_t rfl ?_
      refine xd_all hn hS.2.1.1 ha ?_
      refine xv_all hn hS.2.1 la hf ?_
      unfold wpY_value
      refine yn_1 hn ha ?_
      refine br_f (by decide) (br_f (nI_pos (by omega)) (br_f (nI_nlt (a := 2) (b := f) (by omega) (by omega)) ⟨vp_in_nI (by omega) (by omega), pk_in (3 * zd_f c a + f) 48 (by omega) ix, ?_, hR⟩))
      rw [ix, nI_clamp (by omega)]
      exact (hS.2.2.2.2 _ la (zd_isr hn hS.2.1.1 a ha)).2 f hf
theorem zr_12 (hS : zn_S n L c cs ty va) : zs_m (zr_2 cs) n = zs_m (zr_1 c) n := by
  have hn := hS.1
  refine sm_congr n (fun i hi => ?_)
  have l := zd_lt hn hS.2.1.1 hi
  unfold zr_1 zr_2
  rw [hS.2.2.2.1 i hi]
  by_cases z : c i = -1
  · rw [zd_root z, if_pos rfl, z, if_pos ba_m1]
  · rw [if_neg (fun y => z ((zd_fix hn hS.2.1.1 hi).mp ((nI_eq (by omega) (by omega)).mp y))), if_neg (fun y => z ((zp_neg hn hS.2.1.1 hi).mp y))]
theorem wv_classes (R : zr_R n L mc bl mt c lc lo ml mn cs ty va ke) : wpX_classes (fun r => wpY_classes (fun r' => r' = r ∧ i_Rel k (nI n, nI L, nI mc, fo, bl, tr, mt, c, lc, lo, ml, mn, oA, oB, im) (nI n, nI mc, bl, cs, ty, va, fr, ig, pe, ke)) (nI n, nI mc, bl, cs, ty, va, fr, ig, pe, ke)) (nI n, nI L, nI mc, fo, bl, tr, mt, c, lc, lo, ml, mn, oA, oB, im) :=
  xl_all R.2.2.1.1 (yl_all R.2.2.1.1 ⟨congrArg nI (zr_12 R.2.2.1), zr_in R⟩)
theorem wv_reach (R : zr_R n L mc bl mt c lc lo ml mn cs ty va ke) (v1 : Int32) : wpX_reach (fun r => wpY_reach (fun r' => r' = r ∧ i_Rel k (nI n, nI L, nI mc, fo, bl, tr, mt, c, lc, lo, ml, mn, oA, oB, im) (nI n, nI mc, bl, cs, ty, va, fr, ig, pe, ke)) (nI n, nI mc, bl, cs, ty, va, fr, ig, pe, ke) v1) (nI n, nI L, nI mc, fo, bl, tr, mt, c, lc, lo, ml, mn, oA, oB, im) v1 := by
  have hR : i_Rel k (nI n, nI L, nI mc, fo, bl, tr, mt, c, lc, lo, ml, mn, oA, oB, im) (nI n, nI mc, bl, cs, ty, va, fr, ig, pe, ke) := zr_in R
  have hS := R.2.2.1
  have hn := hS.1
  rcases ba_ix v1 (n := n) (by omega) with b1 | ⟨a, ha, rfl⟩
  · unfold wpX_reach
    refine xn_1 b1 ?_
    refine br_f (by decide) ?_
    unfold wpY_reach
    refine yn_0 b1 ?_
    exact br_t rfl ⟨rfl, hR⟩
  · exact xr_all hn hS.2.1 ha (yr_all hS ha ⟨rfl, hR⟩)
theorem wv_subsumes (R : zr_R n L mc bl mt c lc lo ml mn cs ty va ke) (v1 v2 : Int32) : wpX_subsumes (fun r u' => wpY_subsumes (fun r' v' => r' = r ∧ i_Rel k u' v') (nI n, nI mc, bl, cs, ty, va, fr, ig, pe, ke) v1 v2) (nI n, nI L, nI mc, fo, bl, tr, mt, c, lc, lo, ml, mn, oA, oB, im) v1 v2 := by
  have hS := R.2.2.1
  have hn := hS.1
  rcases ba_ix v1 (n := n) (by omega) with b1 | ⟨a, ha, rfl⟩
  · unfold wpX_subsumes
    refine xn_1 b1 ?_
    refine br_f (by decide) ?_
    unfold wpY_subsumes
    refine yn_0 b1 ?_
    exact br_t rfl ⟨rfl, zr_in R⟩
  · rcases ba_ix v2 (n := n) (by omega) with b2 | ⟨b, hb, rfl⟩
    · unfold wpX_subsumes
      refine xn_0 hn ha ?_
      refine br_t rfl ?_
      refine xn_1 b2 ?_
      refine br_f (by decide) ?_
      unfold wpY_subsumes
      refine yn_1 hn ha ?_
      refine br_f (by decide) ?_
      refine yn_0 b2 ?_
      exact br_t rfl ⟨rfl, zr_in R⟩
    · refine xs_all2 hn hS.2.1 ha hb (fun op oA oB im no => ?_) (fun op oA oB im ⟨h, hh⟩ => ?_)
      · exact yc_fin hS ha hb (fun ig _ => ⟨rfl, zr_in R⟩) (fun ig ⟨h, hh⟩ => absurd hh (no h))
      · exact yc_fin hS ha hb (fun ig no => absurd hh (no h)) (fun ig _ => ⟨rfl, zr_in R⟩)
end
end
section
/-! ===== the calls that store ===== -/
section
variable {n L mc k : Nat} {fo : Int32} {bl tr mt c lc lo ml mn oA oB im cs ty va fr ig pe ke : Nat → Int32}
theorem zr_L0 {L' : Nat} (h : zn_S n L c cs ty va) (e : L' ≤ L) : zn_S n L' c cs ty va := ⟨h.1, h.2.1, Nat.le_trans e h.2.2.1, h.2.2.2⟩
/-- after a settle -/
theorem zr_settle {L' : Nat} (R : zr_R n L mc bl mt c lc lo ml mn cs ty va ke) (e : (L' = 0 ∧ mc = 0) ∨ (L' = L ∧ 0 < mc)) : zr_R n L' mc bl mt c lc lo ml mn cs ty va ke := by
  rcases e with ⟨e1, e2⟩ | ⟨e1, _⟩
  · subst e1 e2
    exact ⟨R.1, R.2.1, zr_L0 R.2.2.1 (by omega), fun k hk => absurd hk (by omega), zk_0⟩
  · subst e1
    exact R
theorem zn_node {c' cs' ty' va' : Nat → Int32} {t : Nat} (hS : zn_S n L c cs ty va) (hn : n < 16) (ht : t < 8) (hA : zn_A n c c') (e1 : c' n = -1) (e2 : c' (16 + n) = nI t) (e3 : ∀ f, f < 3 → c' (32 + n * 3 + f) = -1) (hc : ∀ i, i < n → cs' i = cs i) (hc2 : cs' n = nI n) (ht1 : ∀ i, i < n → ty' i = ty i) (ht2 : ty' n = nI t) (hv : ∀ i, i < 3 * n → va' i = va i) (hv2 : ∀ f, f < 3 → va' (3 * n + f) = -4) : zn_S (n + 1) L c' cs' ty' va' := by
  have hS' : zn_S n L c' cs' ty' va' := zn_congr hA hc ht1 hv hS
  obtain ⟨_, ⟨p1, p2, p3⟩, s3, s4, s5⟩ := hS'
  have pp : zp_I (n + 1) c' := by
    intro i hi
    by_cases e : i = n
    · subst e
      exact Or.inl e1
    · exact p1 i (by omega)
  refine ⟨by omega, ⟨pp, fun i hi => ?_, fun i hi f hf => ?_⟩, ?_, fun i hi => ?_, fun r hr er => ?_⟩
  · by_cases e : i = n
    · subst e
      exact ⟨t, ht, e2⟩
    · exact p2 i (by omega)
  · by_cases e : i = n
    · subst e
      exact Or.inl (e3 f hf)
    · rcases p3 i (by omega) f hf with z | ⟨j, hj, z⟩
      · exact Or.inl z
      · exact Or.inr ⟨j, by omega, z⟩
  · show L ≤ zs_m (zq_1 c') n + zq_1 c' n
    have : L ≤ zs_m (zq_1 c') n := s3
    omega
  · by_cases e : i = n
    · subst e
      rw [zd_root e1]
      exact hc2
    · exact s4 i (by omega)
  · by_cases e : r = n
    · subst e
      refine ⟨ht2.trans e2.symm, fun f hf => ?_⟩
      rw [hv2 f hf]
      unfold zv_l
      rw [e3 f hf, if_pos ba_m1]
    · exact s5 r (by omega) er
theorem wv_node (R : zr_R n L mc bl mt c lc lo ml mn cs ty va ke) (v1 : Int32) : wpX_node (fun r u' => wpY_node (fun r' v' => r' = r ∧ i_Rel k u' v') (nI n, nI mc, bl, cs, ty, va, fr, ig, pe, ke) v1) (nI n, nI L, nI mc, fo, bl, tr, mt, c, lc, lo, ml, mn, oA, oB, im) v1 := by
  have hS := R.2.2.1
  have hn := hS.1
  rcases ba_ix v1 (n := 8) (by omega) with b1 | ⟨t, ht, rfl⟩
  · unfold wpX_node
    refine xb_1 b1 ?_
    refine br_f (by decide) ?_
    unfold wpY_node
    refine yb_0 b1 ?_
    exact br_t rfl ⟨rfl, zr_in R⟩
  · by_cases e : n = 16
    · unfold wpX_node
      refine xb_0 ht ?_
      refine br_t rfl (pk_eq n 16 (fun _ => ?_) (fun z => absurd e z))
      unfold wpY_node
      refine yb_1 ht ?_
      exact br_f (by decide) (pk_eq n 16 (fun _ => ⟨rfl, zr_in R⟩) (fun z => absurd e z))
    · refine xw_all (by omega) ht (fun c' hA e1 e2 e3 => ?_)
      unfold wpY_node
      refine yb_1 ht ?_
      have i0 : 3 * nI n = nI (3 * n) := ba_3 n
      have i1 : (3 * nI n) + 1 = nI (3 * n + 1) := ba_y3 n 1
      have i2 : (3 * nI n) + 2 = nI (3 * n + 2) := ba_y3 n 2
      refine br_f (by decide) (pk_eq n 16 (fun z => absurd z e) (fun _ => ⟨vp_in_nI (by omega) (by omega), nm_r (e' := upd cs n (nI n)) (by rw [nI_clamp (by omega)]) ⟨vp_in_nI (by omega) (by omega), nm_r (e' := upd ty n (nI t)) (by rw [nI_clamp (by omega)]) ⟨pk_in (3 * n) 48 (by omega) i0, nm_r (e' := upd va (3 * n) (-4)) (by rw [i0, nI_clamp (by omega)]) ⟨pk_in (3 * n + 1) 48 (by omega) i1, nm_r (e' := upd (upd va (3 * n) (-4)) (3 * n + 1) (-4)) (by rw [i1, nI_clamp (by omega)]) ⟨pk_in (3 * n + 2) 48 (by omega) i2, nm_r (e' := upd (upd (upd va (3 * n) (-4)) (3 * n + 1) (-4)) (3 * n + 2) (-4)) (by rw [i2, nI_clamp (by omega)]) (nm_r (nI_1 n) ⟨nI_pred n, zr_in ?_⟩)⟩⟩⟩⟩⟩))
      refine ⟨R.1, R.2.1, zn_node hS (by omega) ht hA e1 e2 e3 (fun i hi => pk_un (by omega)) pk_us (fun i hi => pk_un (by omega)) pk_us (fun i hi => ?_) (fun f hf => ?_), R.2.2.2.1, zk_node R.2.2.2.2 hA⟩
      · rw [pk_un (by omega), pk_un (by omega), pk_un (by omega)]
      · by_cases f2 : f = 2
        · subst f2
          exact pk_us
        · rw [pk_un (by omega)]
          by_cases f1 : f = 1
          · subst f1
            exact pk_us
          · rw [pk_un (by omega)]
            obtain rfl : f = 0 := by omega
            exact pk_us
theorem zn_arc {r f m : Nat} (hS : zn_S n L c cs ty va) (hr : r < n) (rr : c r = -1) (hf : f < 3) (hm : m < n) (z : c (32 + r * 3 + f) < 0) : zn_S n (L + 1) (upd c (32 + r * 3 + f) (nI m)) cs ty (upd va (3 * r + f) (cs m)) := by
  obtain ⟨hn, hx, s3, s4, s5⟩ := hS
  have lo1 : ∀ i, i < n → upd c (32 + r * 3 + f) (nI m) i = c i := fun i hi => pk_un (by omega)
  have ty1 : ∀ i, i < n → upd c (32 + r * 3 + f) (nI m) (16 + i) = c (16 + i) := fun i hi => pk_un (by omega)
  have hd := zd_congr hn hx.1 lo1
  refine ⟨hn, ⟨zp_congr lo1 hx.1, fun i hi => ?_, fun i hi g hg => ?_⟩, ?_, fun i hi => ?_, fun q hq eq => ⟨?_, fun g hg => ?_⟩⟩
  · rw [ty1 i hi]
    exact hx.2.1 i hi
  · by_cases e : 32 + i * 3 + g = 32 + r * 3 + f
    · rw [e, pk_us]
      exact Or.inr ⟨m, hm, rfl⟩
    · rw [pk_un e]
      exact hx.2.2 i hi g hg
  · have : zq_P n (upd c (32 + r * 3 + f) (nI m)) = zq_P n c + 1 := by
      refine sm_bump (k := r) n hr (fun i hi e => ?_) ?_
      · unfold zq_1
        rw [lo1 i hi, pk_un (by omega), pk_un (by omega), pk_un (by omega)]
      · unfold zq_1
        rw [lo1 r hr]
        have np : ¬ nI m < 0 := nI_pos (by omega)
        by_cases f0 : f = 0
        · subst f0
          rw [pk_us, pk_un (by omega), pk_un (by omega), if_neg np, if_pos z]
          omega
        · by_cases f1 : f = 1
          · subst f1
            rw [pk_us, pk_un (by omega), pk_un (by omega), if_neg np, if_pos z]
            omega
          · obtain rfl : f = 2 := by omega
            rw [pk_us, pk_un (by omega), pk_un (by omega), if_neg np, if_pos z]
            omega
    omega
  · rw [hd i hi]
    exact s4 i hi
  · rw [ty1 q hq]
    exact (s5 q hq ((lo1 q hq).symm.trans eq)).1
  · have w := (s5 q hq ((lo1 q hq).symm.trans eq)).2 g hg
    by_cases e : 3 * q + g = 3 * r + f
    · have e2 : 32 + q * 3 + g = 32 + r * 3 + f := by omega
      unfold zv_l
      rw [e, e2, pk_us, pk_us, if_neg (nI_pos (by omega)), nI_clamp (by omega), hd m hm]
      exact s4 m hm
    · have e2 : 32 + q * 3 + g ≠ 32 + r * 3 + f := by omega
      rw [pk_un e, w]
      unfold zv_l
      rw [pk_un e2]
      rcases hx.2.2 q hq g hg with y | ⟨j, hj, y⟩
      · rw [y, if_pos ba_m1, if_pos ba_m1]
      · rw [y, if_neg (nI_pos (by omega)), if_neg (nI_pos (by omega)), nI_clamp (by omega), hd j hj]
theorem wv_arc (R : zr_R n L mc bl mt c lc lo ml mn cs ty va ke) (v1 v2 v3 : Int32) : wpX_arc (fun r u' => wpY_arc (fun r' v' => r' = r ∧ i_Rel k u' v') (nI n, nI mc, bl, cs, ty, va, fr, ig, pe, ke) v1 v2 v3) (nI n, nI L, nI mc, fo, bl, tr, mt, c, lc, lo, ml, mn, oA, oB, im) v1 v2 v3 := by
  have hS := R.2.2.1
  have hn := hS.1
  have hx := hS.2.1
  rcases ba_ix v1 (n := n) (by omega) with b1 | ⟨a, ha, rfl⟩
  · unfold wpX_arc
    refine xn_1 b1 ?_
    refine br_f (by decide) ?_
    unfold wpY_arc
    refine yn_0 b1 ?_
    exact br_t rfl ⟨rfl, zr_in R⟩
  · rcases ba_ix v3 (n := n) (by omega) with b3 | ⟨m, hm, rfl⟩
    · unfold wpX_arc
      refine xn_0 hn ha ?_
      refine br_t rfl ?_
      refine xn_1 b3 ?_
      refine br_f (by decide) ?_
      unfold wpY_arc
      refine yn_1 hn ha ?_
      refine br_f (by decide) ?_
      refine yn_0 b3 ?_
      exact br_t rfl ⟨rfl, zr_in R⟩
    · rcases ba_ix v2 (n := 3) (by omega) with b2 | ⟨f, hf, rfl⟩
      · unfold wpX_arc
        refine xn_0 hn ha ?_
        refine br_t rfl ?_
        refine xn_0 hn hm ?_
        refine br_t rfl ?_
        refine xe_1 b2 ?_
        refine br_f (by decide) ?_
        unfold wpY_arc
        refine yn_1 hn ha ?_
        refine br_f (by decide) ?_
        refine yn_1 hn hm ?_
        refine br_f (by decide) ?_
        rcases b2 with z | z
        · exact br_t z ⟨rfl, zr_in R⟩
        · exact br_c (fun _ => ⟨rfl, zr_in R⟩) (fun _ => br_f (fun y => absurd (Int32.le_trans z y) (by decide)) ⟨rfl, zr_in R⟩)
      · have la := zd_lt hn hx.1 ha
        have ra := zd_isr hn hx.1 a ha
        have ea : cs (nI a).toNatClampNeg = nI (zd_f c a) := by rw [nI_clamp (by omega)]; exact hS.2.2.2.1 a ha
        have ix : (3 * cs (nI a).toNatClampNeg) + nI f = nI (3 * zd_f c a + f) := by rw [ea, ba_y3]
        have iv : vp_in ((3 * cs (nI a).toNatClampNeg) + nI f) 48 := pk_in (3 * zd_f c a + f) 48 (by omega) ix
        have ic : ((3 * cs (nI a).toNatClampNeg) + nI f).toNatClampNeg = 3 * zd_f c a + f := by rw [ix, nI_clamp (by omega)]
        have xc : ((32 + (nI (zd_f c a) * 3)) + nI f).toNatClampNeg = 32 + zd_f c a * 3 + f := by rw [ba_i3, nI_clamp (by omega)]
        have ia : vp_in (nI a) 16 := vp_in_nI (by omega) (by omega)
        unfold wpX_arc
        refine xn_0 hn ha ?_
        refine br_t rfl ?_
        refine xn_0 hn hm ?_
        refine br_t rfl ?_
        refine xe_0 hf ?_
        refine br_t rfl ?_
        refine xd_all hn hx.1 ha ⟨pk_in (32 + zd_f c a * 3 + f) 80 (by omega) (ba_i3 _ f), ?_⟩
        rcases zv_cases hS la ra hf with ⟨z, v⟩ | ⟨j, hj, w, v⟩
        · refine br_t (by rw [xc]; exact z) ?_
          rw [ba_i3]
          have hq := zq_bd c hn
          have hL := hS.2.2.1
          refine xc_all (by omega) (by omega) ?_
          refine xt_all (by have := R.1; omega) (fun L' hL' => ?_)
          unfold wpY_arc
          refine yn_1 hn ha ?_
          refine br_f (by decide) ?_
          refine yn_1 hn hm ?_
          refine br_f (by decide) (br_f (nI_pos (by omega)) (br_t (nI_le (b := 2) (by omega) (by omega)) ⟨ia, iv, br_t (by rw [ic]; exact v) ⟨ia, vp_in_nI (by omega) (by omega), iv, nm_r (e' := upd va (3 * zd_f c a + f) (cs m)) (by rw [ic, nI_clamp (by omega)]) ⟨rfl, zr_in ?_⟩⟩⟩))
          have hG : zl_G L c lc lo (L + 1) (upd c (32 + zd_f c a * 3 + f) (nI m)) (upd lc L (nI (32 + zd_f c a * 3 + f))) (upd lo L (c (32 + zd_f c a * 3 + f))) := zl_chg (zl_refl R.2.2.2.1) (by omega)
          exact zr_settle ⟨R.1, R.2.1, zn_arc hS la ra hf hm z, hG.2.2, zk_step R.2.2.2.2 hG⟩ hL'
        · refine br_f (by rw [xc, w]; exact nI_pos (by omega)) ?_
          have lj := zd_lt hn hx.1 hj
          unfold wpY_arc
          refine yn_1 hn ha ?_
          refine br_f (by decide) ?_
          refine yn_1 hn hm ?_
          exact br_f (by decide) (br_f (nI_pos (by omega)) (br_t (nI_le (b := 2) (by omega) (by omega)) ⟨ia, iv, br_f (by rw [ic, v]; exact ba_n4 (by omega)) ⟨rfl, zr_in R⟩⟩))
theorem wv_under (R : zr_R n L mc bl mt c lc lo ml mn cs ty va ke) (v1 v2 : Int32) : wpX_under (fun r u' => wpY_under (fun r' v' => r' = r ∧ i_Rel k u' v') (nI n, nI mc, bl, cs, ty, va, fr, ig, pe, ke) v1 v2) (nI n, nI L, nI mc, fo, bl, tr, mt, c, lc, lo, ml, mn, oA, oB, im) v1 v2 := by
  have hS := R.2.2.1
  have hn := hS.1
  rcases ba_ix v1 (n := 8) (by omega) with b1 | ⟨a, ha, rfl⟩
  · unfold wpX_under
    refine xb_1 b1 ?_
    refine br_f (by decide) ?_
    unfold wpY_under
    refine yb_0 b1 ?_
    exact br_t rfl ⟨rfl, zr_in R⟩
  · rcases ba_ix v2 (n := 8) (by omega) with b2 | ⟨b, hb, rfl⟩
    · unfold wpX_under
      refine xb_0 ha ?_
      refine br_t rfl ?_
      refine xb_1 b2 ?_
      refine br_f (by decide) ?_
      unfold wpY_under
      refine yb_1 ha ?_
      refine br_f (by decide) ?_
      refine yb_0 b2 ?_
      exact br_t rfl ⟨rfl, zr_in R⟩
    · unfold wpX_under
      refine xb_0 ha ?_
      refine br_t rfl ?_
      refine xb_0 hb ?_
      refine br_t rfl (pk_le n 0 (fun z => ⟨9, ?_⟩) (fun z => ?_))
      · refine xu_30 ha hb (fun tr' no => ?_) (fun bl' tr' mt' e hT hM => ?_) 8 0 tr rfl (fun i hi => absurd hi (by omega))
        · unfold wpY_under
          refine yb_1 ha ?_
          refine br_f (by decide) ?_
          refine yb_1 hb ?_
          refine br_f (by decide) (pk_le n 0 (fun _ => ⟨9, ?_⟩) (fun y => absurd z (by omega)))
          exact yu_30 ha hb (fun fr' _ => ⟨rfl, zr_in R⟩) (fun bl2 fr' e hT => absurd (e ▸ hT) no) 8 0 fr rfl (fun i hi => absurd hi (by omega))
        · unfold wpY_under
          refine yb_1 ha ?_
          refine br_f (by decide) ?_
          refine yb_1 hb ?_
          refine br_f (by decide) (pk_le n 0 (fun _ => ⟨9, ?_⟩) (fun y => absurd z (by omega)))
          refine yu_30 ha hb (fun fr' no => absurd (e ▸ hT) no) (fun bl2 fr' e2 _ => ?_) 8 0 fr rfl (fun i hi => absurd hi (by omega))
          have e3 : bl2 = bl' := e2.trans e.symm
          subst e3
          have HB : zh_B bl2 := by rw [e2]; exact zh_under ha R.2.1.1
          refine ⟨?_, zr_in ⟨R.1, ⟨HB, hT, hM⟩, R.2.2⟩⟩
          exact congrArg nI (ba_cn_ext (bl2 b) 8 (HB.1 b hb) 8)
      · unfold wpY_under
        refine yb_1 ha ?_
        refine br_f (by decide) ?_
        refine yb_1 hb ?_
        exact br_f (by decide) (pk_le n 0 (fun y => absurd z (by omega)) (fun _ => ⟨rfl, zr_in R⟩))
theorem wv_mark (R : zr_R n L mc bl mt c lc lo ml mn cs ty va ke) : wpX_mark (fun r u' => wpY_mark (fun r' v' => r' = r ∧ i_Rel k u' v') (nI n, nI mc, bl, cs, ty, va, fr, ig, pe, ke)) (nI n, nI L, nI mc, fo, bl, tr, mt, c, lc, lo, ml, mn, oA, oB, im) := by
  have hm := R.1
  refine pk_eq mc 6 (fun e => pk_eq mc 6 (fun _ => ⟨rfl, zr_in R⟩) (fun z => absurd e z)) (fun e => ?_)
  have hi : vp_in (nI mc) 6 := vp_in_nI (by omega) (by omega)
  have hc : (nI mc).toNatClampNeg = mc := nI_clamp (by omega)
  refine ⟨hi, nm_r (e' := upd ml mc (nI L)) (by rw [hc]) ⟨hi, nm_r (e' := upd mn mc (nI n)) (by rw [hc]) (nm_r (nI_1 mc) ?_)⟩⟩
  exact yy_mark (by omega) (fun ke' hW => ⟨rfl, zr_in ⟨by omega, R.2.1, R.2.2.1, R.2.2.2.1, zk_mark R.2.2.2.2 R.2.2.1 hW⟩⟩)
theorem wv_back (R : zr_R n L mc bl mt c lc lo ml mn cs ty va ke) : wpX_back (fun r u' => wpY_back (fun r' v' => r' = r ∧ i_Rel k u' v') (nI n, nI mc, bl, cs, ty, va, fr, ig, pe, ke)) (nI n, nI L, nI mc, fo, bl, tr, mt, c, lc, lo, ml, mn, oA, oB, im) := by
  have hm := R.1
  cases mc with
  | zero => exact br_t rfl (br_t rfl ⟨rfl, zr_in R⟩)
  | succ m =>
    have hS := R.2.2.1
    have hq := zq_bd c hS.1
    have hL := hS.2.2.1
    obtain ⟨M, K, e1, e2, e3, hM, hK, hS', hk'⟩ := zk_back R.2.2.2.2
    have hi : vp_in (nI m) 6 := vp_in_nI (by omega) (by omega)
    have hc : (nI m).toNatClampNeg = m := nI_clamp (by omega)
    refine br_f (nI_ne0 (by omega) (by omega)) (nm_r (nI_pred m) ⟨hi, ?_⟩)
    rw [hc, e1]
    refine xo_all hM (by omega) R.2.2.2.1 ⟨hi, nm_r (e' := nI K) (by rw [hc]; exact e2) ?_⟩
    refine xt_all (by omega) (fun L' hL' => ?_)
    refine yy_back (by omega) e3 (fun cs' ty' va' h1 h2 => ⟨rfl, zr_in (zr_settle ⟨by omega, R.2.1, zn_congr (zn_refl _ _) (fun i hi => (h1 i (by have := hS'.1; omega)).1) (fun i hi => (h1 i (by have := hS'.1; omega)).2) (fun i hi => h2 i (by have := hS'.1; omega)) hS', fun i hi => R.2.2.2.1 i (by omega), hk'⟩ hL')⟩)
theorem wv_keep (R : zr_R n L mc bl mt c lc lo ml mn cs ty va ke) : wpX_keep (fun r u' => wpY_keep (fun r' v' => r' = r ∧ i_Rel k u' v') (nI n, nI mc, bl, cs, ty, va, fr, ig, pe, ke)) (nI n, nI L, nI mc, fo, bl, tr, mt, c, lc, lo, ml, mn, oA, oB, im) := by
  have hm := R.1
  cases mc with
  | zero => exact br_t rfl (br_t rfl ⟨rfl, zr_in R⟩)
  | succ m =>
    refine br_f (nI_ne0 (by omega) (by omega)) (nm_r (nI_pred m) ?_)
    refine xt_all (by omega) (fun L' hL' => ?_)
    exact br_f (nI_ne0 (by omega) (by omega)) (nm_r (nI_pred m) ⟨rfl, zr_in (zr_settle ⟨by omega, R.2.1, R.2.2.1, R.2.2.2.1, zk_keep R.2.2.2.2⟩ hL')⟩)
theorem zr_clear (H : zh_I bl mt) : zr_R 0 0 0 bl mt c lc lo ml mn cs ty va ke := ⟨by omega, H, ⟨by omega, ⟨fun i hi => absurd hi (by omega), fun i hi => absurd hi (by omega), fun i hi => absurd hi (by omega)⟩, Nat.zero_le _, fun i hi => absurd hi (by omega), fun i hi => absurd hi (by omega)⟩, fun i hi => absurd hi (by omega), zk_0⟩
theorem wv_clear (R : zr_R n L mc bl mt c lc lo ml mn cs ty va ke) : wpX_clear (fun u' => wpY_clear (fun v' => i_Rel k u' v') (nI n, nI mc, bl, cs, ty, va, fr, ig, pe, ke)) (nI n, nI L, nI mc, fo, bl, tr, mt, c, lc, lo, ml, mn, oA, oB, im) := zr_in (k := k) (fo := fo) (tr := tr) (oA := oA) (oB := oB) (im := im) (fr := fr) (ig := ig) (pe := pe) (zr_clear R.2.1)
theorem wv_0 : wpX_init (fun u => wpY_init (fun v => i_Rel 0 u v)) := xi_all (fun tr mt h => yi_all (zr_in (zr_clear ⟨zi_B, zi_T, h⟩)))
end
end
section
/-! ===== unify and unifiable ===== -/
section
variable {n L mc k : Nat} {fo : Int32} {bl tr mt c lc lo ml mn oA oB im cs ty va fr ig pe ke : Nat → Int32}
/-- after going back to where the call began -/
theorem zr_undo {L' : Nat} {c' lc' lo' : Nat → Int32} (R : zr_R n L mc bl mt c lc lo ml mn cs ty va ke) (g : zl_G L c lc lo L' c' lc' lo') : zu_n lc' lo' L L' c' = c ∧ zr_R n L mc bl mt c lc' lo' ml mn cs ty va ke := by
  obtain ⟨e, h⟩ := zk_undo R.2.2.2.2 g
  exact ⟨e, R.1, R.2.1, R.2.2.1, fun i hi => g.2.2 i (by have := g.1; omega), h⟩
theorem wv_unifiable (R : zr_R n L mc bl mt c lc lo ml mn cs ty va ke) (v1 v2 : Int32) : wpX_unifiable (fun r u' => wpY_unifiable (fun r' v' => r' = r ∧ i_Rel k u' v') (nI n, nI mc, bl, cs, ty, va, fr, ig, pe, ke) v1 v2) (nI n, nI L, nI mc, fo, bl, tr, mt, c, lc, lo, ml, mn, oA, oB, im) v1 v2 := by
  have hS := R.2.2.1
  have hn := hS.1
  have H := R.2.1
  rcases ba_ix v1 (n := n) (by omega) with b1 | ⟨x, hx, rfl⟩
  · unfold wpX_unifiable
    refine xn_1 b1 ?_
    refine br_f (by decide) ?_
    unfold wpY_unifiable
    refine yn_0 b1 ?_
    exact br_t rfl ⟨rfl, zr_in R⟩
  · rcases ba_ix v2 (n := n) (by omega) with b2 | ⟨y, hy, rfl⟩
    · unfold wpX_unifiable
      refine xn_0 hn hx ?_
      refine br_t rfl ?_
      refine xn_1 b2 ?_
      refine br_f (by decide) ?_
      unfold wpY_unifiable
      refine yn_1 hn hx ?_
      refine br_f (by decide) ?_
      refine yn_0 b2 ?_
      exact br_t rfl ⟨rfl, zr_in R⟩
    · unfold wpX_unifiable
      refine xn_0 hn hx ?_
      refine br_t rfl ?_
      refine xn_0 hn hy ?_
      refine br_t rfl ?_
      refine xq_all hn H hS.2.1 hx hy hS.2.2.1 R.2.2.2.1 (fun c' L' lc' lo' op oA oB hF g hL' => ?_) (fun c' L' lc' lo' op oA oB hI g hL' => ?_)
      · obtain ⟨e, R'⟩ := zr_undo R g
        refine xo_all g.1 hL' g.2.2 ⟨narrow_b0, ?_⟩
        rw [e]
        unfold wpY_unifiable
        refine yn_1 hn hx ?_
        refine br_f (by decide) ?_
        refine yn_1 hn hy ?_
        refine br_f (by decide) ?_
        refine yt_all hS hx hy (fun F fr' _ _ _ _ => br_t rfl ⟨rfl, zr_in R'⟩) (fun F fr' hI hG _ h => ?_)
        obtain ⟨i, hi, z⟩ := zu_0 hF hG
        exact absurd z (h i hi)
      · have hq := zq_bd c' hn
        obtain ⟨e, R'⟩ := zr_undo R g
        refine xo_all g.1 (by omega) g.2.2 ⟨narrow_b1, ?_⟩
        rw [e]
        unfold wpY_unifiable
        refine yn_1 hn hx ?_
        refine br_f (by decide) ?_
        refine yn_1 hn hy ?_
        refine br_f (by decide) ?_
        refine yt_all hS hx hy (fun F fr' hI2 hG _ h => ?_) (fun F fr' _ _ _ _ => br_f (by decide) ⟨rfl, zr_in R'⟩)
        obtain ⟨i, hi, z⟩ := h
        exact absurd z (zu_no0 H hn hI hI2 hG hi)
theorem wv_unify (R : zr_R n L mc bl mt c lc lo ml mn cs ty va ke) (v1 v2 : Int32) : wpX_unify (fun r u' => wpY_unify (fun r' v' => r' = r ∧ i_Rel k u' v') (nI n, nI mc, bl, cs, ty, va, fr, ig, pe, ke) v1 v2) (nI n, nI L, nI mc, fo, bl, tr, mt, c, lc, lo, ml, mn, oA, oB, im) v1 v2 := by
  have hS := R.2.2.1
  have hn := hS.1
  have H := R.2.1
  rcases ba_ix v1 (n := n) (by omega) with b1 | ⟨x, hx, rfl⟩
  · unfold wpX_unify
    refine xn_1 b1 ?_
    refine br_f (by decide) ?_
    unfold wpY_unify
    refine yn_0 b1 ?_
    exact br_t rfl ⟨rfl, zr_in R⟩
  · rcases ba_ix v2 (n := n) (by omega) with b2 | ⟨y, hy, rfl⟩
    · unfold wpX_unify
      refine xn_0 hn hx ?_
      refine br_t rfl ?_
      refine xn_1 b2 ?_
      refine br_f (by decide) ?_
      unfold wpY_unify
      refine yn_1 hn hx ?_
      refine br_f (by decide) ?_
      refine yn_0 b2 ?_
      exact br_t rfl ⟨rfl, zr_in R⟩
    · unfold wpX_unify
      refine xn_0 hn hx ?_
      refine br_t rfl ?_
      refine xn_0 hn hy ?_
      refine br_t rfl ?_
      refine xq_all hn H hS.2.1 hx hy hS.2.2.1 R.2.2.2.1 (fun c' L' lc' lo' op oA oB hF g hL' => br_t rfl ?_) (fun c' L' lc' lo' op oA oB hI g hL' => br_f (by decide) ?_)
      · obtain ⟨e, R'⟩ := zr_undo R g
        refine xo_all g.1 hL' g.2.2 ?_
        rw [e]
        unfold wpY_unify
        refine yn_1 hn hx ?_
        refine br_f (by decide) ?_
        refine yn_1 hn hy ?_
        refine br_f (by decide) ?_
        refine yt_all hS hx hy (fun F fr' _ _ _ _ => br_t rfl ⟨rfl, zr_in R'⟩) (fun F fr' hI hG _ h => ?_)
        obtain ⟨i, hi, z⟩ := zu_0 hF hG
        exact absurd z (h i hi)
      · refine xt_all (by have := R.1; omega) (fun L2 hL2 => xl_all hn ?_)
        unfold wpY_unify
        refine yn_1 hn hx ?_
        refine br_f (by decide) ?_
        refine yn_1 hn hy ?_
        refine br_f (by decide) ?_
        refine yt_all hS hx hy (fun F fr' hI2 hG _ h => ?_) (fun F fr' hI2 hG hE _ => br_f (by decide) ⟨n + 1, ?_⟩)
        · obtain ⟨i, hi, z⟩ := h
          exact absurd z (zu_no0 H hn hI hI2 hG hi)
        · have e := zu_eq hn hI hI2 hG
          have rt : ∀ r, r < n → (F r = r ↔ c' r = -1) := fun r hr => by rw [← e r hr]; exact zd_fix hn hI.1.1 hr
          refine yx_32 (V := zv_l c') (T := fun r => c' (16 + r)) hS H.2.1 hI2.1 hE (zu_V hn hS.2.1 hI hI2 e) (fun r hr er => zu_low H hn hI e hr ((rt r hr).mp er)) (fun cs' ty' va' ig' pe' h1 h2 => ?_) n 0 ig (by omega) (fun i hi => absurd hi (by omega))
          have hS' : zn_S n L' c' cs' ty' va' := ⟨hn, hI.1, hL', fun i hi => by rw [h1 i hi, e i hi], fun r hr er => h2 r hr ((rt r hr).mpr er)⟩
          exact ⟨congrArg nI (zr_12 hS'), zr_in (zr_settle ⟨R.1, H, hS', g.2.2, zk_step R.2.2.2.2 g⟩ hL2)⟩
end
end
section
/-! ===== what is owed ===== -/
theorem i_up {k : Nat} {u : SX} {v : SY} (h : i_Rel k u v) : i_Rel (k + 4) u v := h
theorem i_vc0 : wpX_init (fun u => wpY_init (fun v => i_Rel 0 u v)) := wv_0
theorem i_vc_under {k : Nat} {u : SX} {v : SY} (I : i_Rel k u v) (hk : k + 4 ≤ 2048) (v1 : Int32) (v2 : Int32) : wpX_under (fun r u' => wpY_under (fun r' v' => r' = r ∧ i_Rel (k + 4) u' v') v v1 v2) u v1 v2 := zz_el (P := fun u v => wpX_under (fun r u' => wpY_under (fun r' v' => r' = r ∧ i_Rel (k + 4) u' v') v v1 v2) u v1 v2) (fun n L mc fo bl tr mt c lc lo ml mn oA oB im cs ty va fr ig pe ke R => wv_under R v1 v2) I
theorem i_vc_isUnder {k : Nat} {u : SX} {v : SY} (I : i_Rel k u v) (hk : k + 4 ≤ 2048) (v1 : Int32) (v2 : Int32) : wpX_isUnder (fun r => wpY_isUnder (fun r' => r' = r ∧ i_Rel (k + 4) u v) v v1 v2) u v1 v2 := zz_el (P := fun u v => wpX_isUnder (fun r => wpY_isUnder (fun r' => r' = r ∧ i_Rel (k + 4) u v) v v1 v2) u v1 v2) (fun n L mc fo bl tr mt c lc lo ml mn oA oB im cs ty va fr ig pe ke R => wv_isUnder R v1 v2) I
theorem i_vc_meet {k : Nat} {u : SX} {v : SY} (I : i_Rel k u v) (hk : k + 4 ≤ 2048) (v1 : Int32) (v2 : Int32) : wpX_meet (fun r => wpY_meet (fun r' => r' = r ∧ i_Rel (k + 4) u v) v v1 v2) u v1 v2 := zz_el (P := fun u v => wpX_meet (fun r => wpY_meet (fun r' => r' = r ∧ i_Rel (k + 4) u v) v v1 v2) u v1 v2) (fun n L mc fo bl tr mt c lc lo ml mn oA oB im cs ty va fr ig pe ke R => wv_meet R v1 v2) I
theorem i_vc_node {k : Nat} {u : SX} {v : SY} (I : i_Rel k u v) (hk : k + 4 ≤ 2048) (v1 : Int32) : wpX_node (fun r u' => wpY_node (fun r' v' => r' = r ∧ i_Rel (k + 4) u' v') v v1) u v1 := zz_el (P := fun u v => wpX_node (fun r u' => wpY_node (fun r' v' => r' = r ∧ i_Rel (k + 4) u' v') v v1) u v1) (fun n L mc fo bl tr mt c lc lo ml mn oA oB im cs ty va fr ig pe ke R => wv_node R v1) I
theorem i_vc_nodes {k : Nat} {u : SX} {v : SY} (I : i_Rel k u v) (hk : k + 4 ≤ 2048) : wpX_nodes (fun r => wpY_nodes (fun r' => r' = r ∧ i_Rel (k + 4) u v) v) u := zz_el (P := fun u v => wpX_nodes (fun r => wpY_nodes (fun r' => r' = r ∧ i_Rel (k + 4) u v) v) u) (fun n L mc fo bl tr mt c lc lo ml mn oA oB im cs ty va fr ig pe ke R => ⟨rfl, zr_in R⟩) I
theorem i_vc_arc {k : Nat} {u : SX} {v : SY} (I : i_Rel k u v) (hk : k + 4 ≤ 2048) (v1 : Int32) (v2 : Int32) (v3 : Int32) : wpX_arc (fun r u' => wpY_arc (fun r' v' => r' = r ∧ i_Rel (k + 4) u' v') v v1 v2 v3) u v1 v2 v3 := zz_el (P := fun u v => wpX_arc (fun r u' => wpY_arc (fun r' v' => r' = r ∧ i_Rel (k + 4) u' v') v v1 v2 v3) u v1 v2 v3) (fun n L mc fo bl tr mt c lc lo ml mn oA oB im cs ty va fr ig pe ke R => wv_arc R v1 v2 v3) I
theorem i_vc_unify {k : Nat} {u : SX} {v : SY} (I : i_Rel k u v) (hk : k + 4 ≤ 2048) (v1 : Int32) (v2 : Int32) : wpX_unify (fun r u' => wpY_unify (fun r' v' => r' = r ∧ i_Rel (k + 4) u' v') v v1 v2) u v1 v2 := zz_el (P := fun u v => wpX_unify (fun r u' => wpY_unify (fun r' v' => r' = r ∧ i_Rel (k + 4) u' v') v v1 v2) u v1 v2) (fun n L mc fo bl tr mt c lc lo ml mn oA oB im cs ty va fr ig pe ke R => wv_unify R v1 v2) I
theorem i_vc_unifiable {k : Nat} {u : SX} {v : SY} (I : i_Rel k u v) (hk : k + 4 ≤ 2048) (v1 : Int32) (v2 : Int32) : wpX_unifiable (fun r u' => wpY_unifiable (fun r' v' => r' = r ∧ i_Rel (k + 4) u' v') v v1 v2) u v1 v2 := zz_el (P := fun u v => wpX_unifiable (fun r u' => wpY_unifiable (fun r' v' => r' = r ∧ i_Rel (k + 4) u' v') v v1 v2) u v1 v2) (fun n L mc fo bl tr mt c lc lo ml mn oA oB im cs ty va fr ig pe ke R => wv_unifiable R v1 v2) I
theorem i_vc_classOf {k : Nat} {u : SX} {v : SY} (I : i_Rel k u v) (hk : k + 4 ≤ 2048) (v1 : Int32) : wpX_classOf (fun r => wpY_classOf (fun r' => r' = r ∧ i_Rel (k + 4) u v) v v1) u v1 := zz_el (P := fun u v => wpX_classOf (fun r => wpY_classOf (fun r' => r' = r ∧ i_Rel (k + 4) u v) v v1) u v1) (fun n L mc fo bl tr mt c lc lo ml mn oA oB im cs ty va fr ig pe ke R => wv_classOf R v1) I
theorem i_vc_typeOf {k : Nat} {u : SX} {v : SY} (I : i_Rel k u v) (hk : k + 4 ≤ 2048) (v1 : Int32) : wpX_typeOf (fun r => wpY_typeOf (fun r' => r' = r ∧ i_Rel (k + 4) u v) v v1) u v1 := zz_el (P := fun u v => wpX_typeOf (fun r => wpY_typeOf (fun r' => r' = r ∧ i_Rel (k + 4) u v) v v1) u v1) (fun n L mc fo bl tr mt c lc lo ml mn oA oB im cs ty va fr ig pe ke R => wv_typeOf R v1) I
theorem i_vc_value {k : Nat} {u : SX} {v : SY} (I : i_Rel k u v) (hk : k + 4 ≤ 2048) (v1 : Int32) (v2 : Int32) : wpX_value (fun r => wpY_value (fun r' => r' = r ∧ i_Rel (k + 4) u v) v v1 v2) u v1 v2 := zz_el (P := fun u v => wpX_value (fun r => wpY_value (fun r' => r' = r ∧ i_Rel (k + 4) u v) v v1 v2) u v1 v2) (fun n L mc fo bl tr mt c lc lo ml mn oA oB im cs ty va fr ig pe ke R => wv_value R v1 v2) I
theorem i_vc_classes {k : Nat} {u : SX} {v : SY} (I : i_Rel k u v) (hk : k + 4 ≤ 2048) : wpX_classes (fun r => wpY_classes (fun r' => r' = r ∧ i_Rel (k + 4) u v) v) u := zz_el (P := fun u v => wpX_classes (fun r => wpY_classes (fun r' => r' = r ∧ i_Rel (k + 4) u v) v) u) (fun n L mc fo bl tr mt c lc lo ml mn oA oB im cs ty va fr ig pe ke R => wv_classes R) I
theorem i_vc_reach {k : Nat} {u : SX} {v : SY} (I : i_Rel k u v) (hk : k + 4 ≤ 2048) (v1 : Int32) : wpX_reach (fun r => wpY_reach (fun r' => r' = r ∧ i_Rel (k + 4) u v) v v1) u v1 := zz_el (P := fun u v => wpX_reach (fun r => wpY_reach (fun r' => r' = r ∧ i_Rel (k + 4) u v) v v1) u v1) (fun n L mc fo bl tr mt c lc lo ml mn oA oB im cs ty va fr ig pe ke R => wv_reach R v1) I
theorem i_vc_subsumes {k : Nat} {u : SX} {v : SY} (I : i_Rel k u v) (hk : k + 4 ≤ 2048) (v1 : Int32) (v2 : Int32) : wpX_subsumes (fun r u' => wpY_subsumes (fun r' v' => r' = r ∧ i_Rel (k + 4) u' v') v v1 v2) u v1 v2 := zz_el (P := fun u v => wpX_subsumes (fun r u' => wpY_subsumes (fun r' v' => r' = r ∧ i_Rel (k + 4) u' v') v v1 v2) u v1 v2) (fun n L mc fo bl tr mt c lc lo ml mn oA oB im cs ty va fr ig pe ke R => wv_subsumes R v1 v2) I
theorem i_vc_mark {k : Nat} {u : SX} {v : SY} (I : i_Rel k u v) (hk : k + 4 ≤ 2048) : wpX_mark (fun r u' => wpY_mark (fun r' v' => r' = r ∧ i_Rel (k + 4) u' v') v) u := zz_el (P := fun u v => wpX_mark (fun r u' => wpY_mark (fun r' v' => r' = r ∧ i_Rel (k + 4) u' v') v) u) (fun n L mc fo bl tr mt c lc lo ml mn oA oB im cs ty va fr ig pe ke R => wv_mark R) I
theorem i_vc_back {k : Nat} {u : SX} {v : SY} (I : i_Rel k u v) (hk : k + 4 ≤ 2048) : wpX_back (fun r u' => wpY_back (fun r' v' => r' = r ∧ i_Rel (k + 4) u' v') v) u := zz_el (P := fun u v => wpX_back (fun r u' => wpY_back (fun r' v' => r' = r ∧ i_Rel (k + 4) u' v') v) u) (fun n L mc fo bl tr mt c lc lo ml mn oA oB im cs ty va fr ig pe ke R => wv_back R) I
theorem i_vc_keep {k : Nat} {u : SX} {v : SY} (I : i_Rel k u v) (hk : k + 4 ≤ 2048) : wpX_keep (fun r u' => wpY_keep (fun r' v' => r' = r ∧ i_Rel (k + 4) u' v') v) u := zz_el (P := fun u v => wpX_keep (fun r u' => wpY_keep (fun r' v' => r' = r ∧ i_Rel (k + 4) u' v') v) u) (fun n L mc fo bl tr mt c lc lo ml mn oA oB im cs ty va fr ig pe ke R => wv_keep R) I
theorem i_vc_marks {k : Nat} {u : SX} {v : SY} (I : i_Rel k u v) (hk : k + 4 ≤ 2048) : wpX_marks (fun r => wpY_marks (fun r' => r' = r ∧ i_Rel (k + 4) u v) v) u := zz_el (P := fun u v => wpX_marks (fun r => wpY_marks (fun r' => r' = r ∧ i_Rel (k + 4) u v) v) u) (fun n L mc fo bl tr mt c lc lo ml mn oA oB im cs ty va fr ig pe ke R => ⟨rfl, zr_in R⟩) I
theorem i_vc_clear {k : Nat} {u : SX} {v : SY} (I : i_Rel k u v) (hk : k + 4 ≤ 2048) : wpX_clear (fun u' => wpY_clear (fun v' => i_Rel (k + 4) u' v') v) u := zz_el (P := fun u v => wpX_clear (fun u' => wpY_clear (fun v' => i_Rel (k + 4) u' v') v) u) (fun n L mc fo bl tr mt c lc lo ml mn oA oB im cs ty va fr ig pe ke R => wv_clear R) I
end
