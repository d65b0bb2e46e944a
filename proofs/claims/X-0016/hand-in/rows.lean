section
/-! pure rows to paste: stores, nI and lN arithmetic, masks, shifts, narrowing, branches by naturals (pk_le, pk_lt, pk_eq), loops (lp1 .. lp16: the measure of the state; rp1 ..: recursion), negatives. Take what you need -/
theorem pk_us {f : Nat → Int32} {k : Nat} {x : Int32} : upd f k x k = x := if_pos rfl
theorem pk_un {f : Nat → Int32} {k j : Nat} {x : Int32} (h : j ≠ k) : upd f k x j = f j := if_neg h
theorem pk_uLs {f : Nat → Int64} {k : Nat} {x : Int64} : vp_updL f k x k = x := if_pos rfl
theorem pk_uLn {f : Nat → Int64} {k j : Nat} {x : Int64} (h : j ≠ k) : vp_updL f k x j = f j := if_neg h
theorem pk_sub {a b : Nat} (h : b ≤ a) : nI a - nI b = nI (a - b) := by
  obtain ⟨c, rfl⟩ : ∃ c, a = c + b := ⟨a - b, by omega⟩
  rw [← nI_add, Int32.add_sub_cancel, Nat.add_sub_cancel]
theorem pk_m1 (n : Nat) : nI (n + 1) + (-1) = nI n := by
  rw [← nI_1, Int32.add_assoc, show (1 : Int32) + (-1) = 0 from rfl, Int32.add_zero]
theorem pk_mul (a b : Nat) : nI a * nI b = nI (a * b) := (Int32.ofNat_mul a b).symm
theorem pk_div {a d : Nat} (ha : a < 2 ^ 31) (h0 : 0 < d) (hd : d < 2 ^ 31) : nI a / nI d = nI (a / d) := by
  apply Int32.toInt_inj.mp
  rw [lg_idiv_nonneg (by rw [nI_toInt ha]; omega) (by rw [nI_toInt hd]; omega), nI_toInt ha, nI_toInt hd, nI_toInt (Nat.lt_of_le_of_lt (Nat.div_le_self a d) ha)]
  first | rfl | exact (Int.natCast_ediv _ _).symm
theorem pk_rem {a d : Nat} (ha : a < 2 ^ 31) (h0 : 0 < d) (hd : d < 2 ^ 31) : nI a - nI a / nI d * nI d = nI (a % d) := by
  rw [pk_div ha h0 hd, pk_mul, pk_sub (Nat.div_mul_le_self a d)]
  exact congrArg nI (by have := Nat.div_add_mod' a d; omega)
theorem pk_sub_toInt {a b : Nat} (ha : a < 2 ^ 30) (hb : b < 2 ^ 30) : (nI a - nI b).toInt = (a : Int) - b := by
  rw [Int32.toInt_sub, nI_toInt (by omega), nI_toInt (by omega)]
  exact Int.bmod_eq_of_le (by omega) (by omega)
theorem pk_sneg {a b : Nat} (hb : b < 2 ^ 30) (h : a < b) : nI a - nI b < 0 := by
  rw [Int32.lt_iff_toInt_lt, pk_sub_toInt (by omega) hb, show (0 : Int32).toInt = 0 from by decide]
  omega
theorem pk_ix (x : Int32) {n : Nat} (hn : n < 2 ^ 31) : x < 0 ∨ nI n ≤ x ∨ ∃ j : Nat, j < n ∧ x = nI j := by
  by_cases h : x < 0
  · exact Or.inl h
  · obtain ⟨j, hj, rfl⟩ := nI_of h
    by_cases h2 : j < n
    · exact Or.inr (Or.inr ⟨j, h2, rfl⟩)
    · exact Or.inr (Or.inl (nI_le (by omega) hj))
theorem pk_le {x y : Int32} {A B : Prop} (a b : Nat) (f : a ≤ b → A) (g : b < a → B) (hx : x = nI a := by rfl) (hy : y = nI b := by rfl) (ha : a < 2 ^ 31 := by omega) (hb : b < 2 ^ 31 := by omega) : (x ≤ y → A) ∧ (¬ x ≤ y → B) := by
  subst hx hy
  rw [nI_leI ha hb]
  exact ⟨f, fun z => g (by omega)⟩
theorem pk_lt {x y : Int32} {A B : Prop} (a b : Nat) (f : a < b → A) (g : b ≤ a → B) (hx : x = nI a := by rfl) (hy : y = nI b := by rfl) (ha : a < 2 ^ 31 := by omega) (hb : b < 2 ^ 31 := by omega) : (x < y → A) ∧ (¬ x < y → B) := by
  subst hx hy
  rw [nI_ltI ha hb]
  exact ⟨f, fun z => g (by omega)⟩
theorem pk_eq {x y : Int32} {A B : Prop} (a b : Nat) (f : a = b → A) (g : a ≠ b → B) (hx : x = nI a := by rfl) (hy : y = nI b := by rfl) (ha : a < 2 ^ 31 := by omega) (hb : b < 2 ^ 31 := by omega) : (x = y → A) ∧ (¬ x = y → B) := by
  subst hx hy
  rw [nI_eq ha hb]
  exact ⟨f, g⟩
theorem pk_in {x : Int32} (n N : Nat) (h : n < N) (hx : x = nI n := by rfl) (hN : N < 2 ^ 31 := by omega) : vp_in x N := by
  subst hx
  exact vp_in_nI h hN
theorem pk_cl {x : Int32} (n : Nat) (hx : x = nI n := by rfl) (h : n < 2 ^ 31 := by omega) : x.toNatClampNeg = n := by
  subst hx
  exact nI_clamp h
theorem pk_tn {n : Nat} (h : n < 2 ^ 32) : (nI n).toBitVec.toNat = n := Nat.mod_eq_of_lt h
theorem pk_and (x : Int32) {m : Int32} (k : Nat) (hm : m.toBitVec.toNat = 2 ^ k - 1) : x &&& m = nI (x.toBitVec.toNat % 2 ^ k) := by
  apply Int32.toBitVec_inj.mp
  apply BitVec.eq_of_toNat_eq
  rw [Int32.toBitVec_and, BitVec.toNat_and, hm, Nat.and_two_pow_sub_one_eq_mod]
  show _ = (BitVec.ofNat 32 _).toNat
  rw [BitVec.toNat_ofNat]
  exact (Nat.mod_eq_of_lt (Nat.lt_of_le_of_lt (Nat.mod_le _ _) x.toBitVec.isLt)).symm
theorem pk_andN {n : Nat} (h : n < 2 ^ 32) {m : Int32} (k : Nat) (hm : m.toBitVec.toNat = 2 ^ k - 1) : nI n &&& m = nI (n % 2 ^ k) := by
  rw [pk_and _ k hm, pk_tn h]
theorem pk_andE (x : Int32) {m : Int32} (k : Nat) (hm : m.toBitVec.toNat = 2 ^ k - 1) : ∃ j : Nat, j < 2 ^ k ∧ x &&& m = nI j := ⟨_, Nat.mod_lt _ (Nat.two_pow_pos k), pk_and x k hm⟩
theorem pk_andIn (x : Int32) {m : Int32} (k : Nat) (hm : m.toBitVec.toNat = 2 ^ k - 1) (hk : k ≤ 30) : vp_in (x &&& m) (2 ^ k) := by
  obtain ⟨j, hj, e⟩ := pk_andE x k hm
  rw [e]
  exact vp_in_nI hj (Nat.lt_of_le_of_lt (Nat.pow_le_pow_right (by decide) hk) (by decide))
theorem pk_shl (a s : Int32) (k : Nat) (hs : (s.toBitVec.smod 32).toNat = k) : (a <<< s).toBitVec.toNat = a.toBitVec.toNat * 2 ^ k % 2 ^ 32 := by
  show (a.toBitVec <<< (s.toBitVec.smod 32).toNat).toNat = _
  rw [hs, BitVec.toNat_shiftLeft, Nat.shiftLeft_eq]
theorem pk_shlN {n : Nat} (s : Int32) (k : Nat) (hs : (s.toBitVec.smod 32).toNat = k) (h : n * 2 ^ k < 2 ^ 32) : nI n <<< s = nI (n * 2 ^ k) := by
  apply Int32.toBitVec_inj.mp
  apply BitVec.eq_of_toNat_eq
  have hn : n < 2 ^ 32 := Nat.lt_of_le_of_lt (Nat.le_mul_of_pos_right n (Nat.two_pow_pos k)) h
  rw [pk_shl _ _ k hs, pk_tn hn, pk_tn h, Nat.mod_eq_of_lt h]
theorem pk_shr (a s : Int32) (k : Nat) (hs : (s.toBitVec.smod 32).toNat = k) : (a >>> s).toInt = a.toInt >>> k := by
  show (a.toBitVec.sshiftRight (s.toBitVec.smod 32).toNat).toInt = _
  rw [hs, BitVec.toInt_sshiftRight]
  rfl
theorem pk_shrN {n : Nat} (h : n < 2 ^ 31) (s : Int32) (k : Nat) (hs : (s.toBitVec.smod 32).toNat = k) : nI n >>> s = nI (n / 2 ^ k) := by
  apply Int32.toInt_inj.mp
  have h2 : n / 2 ^ k ≤ n := Nat.div_le_self _ _
  rw [pk_shr _ _ k hs, nI_toInt h, nI_toInt (by omega), Int.shiftRight_eq_div_pow]
  rfl
theorem pk_ushr (x s : Int32) (k : Nat) (hs : ((s.toUInt32 &&& Int32.toUInt32 31).toBitVec % 32).toNat = k) : (x.toUInt32 >>> (s.toUInt32 &&& Int32.toUInt32 31)).toInt32.toBitVec.toNat = x.toBitVec.toNat / 2 ^ k := by
  have e : (x.toUInt32 >>> (s.toUInt32 &&& Int32.toUInt32 31)).toInt32.toBitVec = x.toBitVec >>> k := by
    rw [← hs]
    exact UInt32.toBitVec_shiftRight _ _
  rw [e, BitVec.toNat_ushiftRight, Nat.shiftRight_eq_div_pow]
theorem pk_ushrN {n : Nat} (hn : n < 2 ^ 32) (s : Int32) (k : Nat) (hs : ((s.toUInt32 &&& Int32.toUInt32 31).toBitVec % 32).toNat = k) : ((nI n).toUInt32 >>> (s.toUInt32 &&& Int32.toUInt32 31)).toInt32 = nI (n / 2 ^ k) := by
  apply Int32.toBitVec_inj.mp
  apply BitVec.eq_of_toNat_eq
  rw [pk_ushr _ s k hs, pk_tn hn, pk_tn (Nat.lt_of_le_of_lt (Nat.div_le_self _ _) hn)]
theorem pk_least (P : Nat → Prop) (h : ∃ k, P k) : ∃ k, P k ∧ ∀ j, j < k → ¬ P j := by
  obtain ⟨k, hk⟩ := h
  induction k using Nat.strongRecOn with
  | ind k ih =>
    by_cases e : ∃ j, j < k ∧ P j
    · obtain ⟨j, hj, pj⟩ := e
      exact ih j hj pj
    · exact ⟨k, hk, fun j hj pj => e ⟨j, hj, pj⟩⟩
/-! ===== Int32 by its bits: bt x i ===== -/
def bt (x : Int32) (i : Nat) : Bool := x.toBitVec.getLsbD i
theorem b_ext {x y : Int32} (h : ∀ i, i < 32 → bt x i = bt y i) : x = y := Int32.toBitVec_inj.mp (BitVec.eq_of_getLsbD_eq (fun i hi => h i hi))
theorem b_or (x y : Int32) (i : Nat) : bt (x ||| y) i = (bt x i || bt y i) := by unfold bt; rw [Int32.toBitVec_or, BitVec.getLsbD_or]
theorem b_and (x y : Int32) (i : Nat) : bt (x &&& y) i = (bt x i && bt y i) := by unfold bt; rw [Int32.toBitVec_and, BitVec.getLsbD_and]
theorem b_xor (x y : Int32) (i : Nat) : bt (x ^^^ y) i = (bt x i ^^ bt y i) := by unfold bt; rw [Int32.toBitVec_xor, BitVec.getLsbD_xor]
theorem b_big {x : Int32} {i : Nat} (h : 32 ≤ i) : bt x i = false := BitVec.getLsbD_of_ge _ _ h
theorem b_255 (i : Nat) : bt 255 i = decide (i < 8) := by
  rcases Nat.lt_or_ge i 32 with h | h
  · exact (by decide +kernel : ∀ i, i < 32 → bt 255 i = decide (i < 8)) i h
  · rw [b_big h, decide_eq_false (by omega)]
theorem b_65535 (i : Nat) : bt 65535 i = decide (i < 16) := by
  rcases Nat.lt_or_ge i 32 with h | h
  · exact (by decide +kernel : ∀ i, i < 32 → bt 65535 i = decide (i < 16)) i h
  · rw [b_big h, decide_eq_false (by omega)]
theorem b_m1 : ∀ i, i < 32 → bt (-1) i = true := by decide +kernel
theorem b_0 (i : Nat) : bt 0 i = false := BitVec.getLsbD_zero
theorem s_l : ∀ n, n < 32 → ((nI n &&& 31).toBitVec.smod 32).toNat = n := by decide +kernel
theorem s_u : ∀ n, n < 32 → (((nI n).toUInt32 &&& Int32.toUInt32 31).toBitVec % 32).toNat = n := by decide +kernel
theorem b_shl (n : Nat) (hn : n < 32) (x : Int32) {i : Nat} (hi : i < 32) : bt (x <<< (nI n &&& 31)) i = (decide (n ≤ i) && bt x (i - n)) := by
  unfold bt
  rw [Int32.toBitVec_shiftLeft]
  show (x.toBitVec <<< ((nI n &&& 31).toBitVec.smod 32).toNat).getLsbD i = _
  rw [s_l n hn, BitVec.getLsbD_shiftLeft]
  rcases Nat.lt_or_ge i n with h | h
  · simp [h, Nat.not_le.mpr h]
  · simp [hi, h, Nat.not_lt.mpr h]
theorem b_ushr (n : Nat) (hn : n < 32) (x : Int32) (i : Nat) : bt ((x.toUInt32 >>> ((nI n).toUInt32 &&& Int32.toUInt32 31)).toInt32) i = bt x (n + i) := by
  show (x.toUInt32 >>> ((nI n).toUInt32 &&& Int32.toUInt32 31)).toBitVec.getLsbD i = x.toUInt32.toBitVec.getLsbD (n + i)
  rw [UInt32.toBitVec_shiftRight]
  show (x.toUInt32.toBitVec >>> (((nI n).toUInt32 &&& Int32.toUInt32 31).toBitVec % 32).toNat).getLsbD i = _
  rw [s_u n hn, BitVec.getLsbD_ushiftRight]
theorem b_sshr (n : Nat) (hn : n < 32) (x : Int32) {i : Nat} (hi : i < 32) : bt (x >>> (nI n &&& 31)) i = if n + i < 32 then bt x (n + i) else bt x 31 := by
  unfold bt
  rw [Int32.toBitVec_shiftRight]
  show (x.toBitVec.sshiftRight ((nI n &&& 31).toBitVec.smod 32).toNat).getLsbD i = _
  rw [s_l n hn, BitVec.getLsbD_sshiftRight, BitVec.msb_eq_getLsbD_last]
  simp [hi]
theorem b_shl8 (x : Int32) {i : Nat} (hi : i < 32) : bt (x <<< ((8 : Int32) &&& 31)) i = (decide (8 ≤ i) && bt x (i - 8)) := b_shl 8 (by omega) x hi
theorem b_shl16 (x : Int32) {i : Nat} (hi : i < 32) : bt (x <<< ((16 : Int32) &&& 31)) i = (decide (16 ≤ i) && bt x (i - 16)) := b_shl 16 (by omega) x hi
theorem b_shl24 (x : Int32) {i : Nat} (hi : i < 32) : bt (x <<< ((24 : Int32) &&& 31)) i = (decide (24 ≤ i) && bt x (i - 24)) := b_shl 24 (by omega) x hi
theorem b_sshr8 (x : Int32) {i : Nat} (hi : i < 32) : bt (x >>> ((8 : Int32) &&& 31)) i = if 8 + i < 32 then bt x (8 + i) else bt x 31 := b_sshr 8 (by omega) x hi
end
section
/-! ===== bits of ints and longs ===== -/
theorem ab_1 : ∀ i, i < 32 → bt 1 i = decide (i = 0) := by decide +kernel
theorem ab_tst (x : Int32) {i : Nat} (hi : i < 32) : ((x >>> (nI i &&& 31)) &&& 1) = (if bt x i = true then 1 else 0) := by
  apply b_ext
  intro j hj
  rw [b_and, b_sshr i hi x hj, ab_1 j hj]
  rcases Nat.eq_zero_or_pos j with h | h
  · subst h
    rw [Nat.add_zero, if_pos hi]
    cases hb : bt x i
    · exact (b_0 0).symm
    · exact (ab_1 0 (by omega)).symm
  · have h0 : j ≠ 0 := by omega
    have e : decide (j = 0) = false := decide_eq_false h0
    rw [e, Bool.and_false]
    cases hb : bt x i
    · exact (b_0 j).symm
    · exact ((ab_1 j hj).trans e).symm
theorem ab_t0 (x : Int32) {i : Nat} (hi : i < 32) : ((x >>> (nI i &&& 31)) &&& 1) = 0 ↔ bt x i = false := by
  rw [ab_tst x hi]
  cases hb : bt x i
  · exact ⟨fun _ => rfl, fun _ => rfl⟩
  · exact ⟨fun z => absurd z (by decide), fun z => absurd z (by decide)⟩
theorem ab_t1 (x : Int32) {i : Nat} (hi : i < 32) : ((x >>> (nI i &&& 31)) &&& 1) = 1 ↔ bt x i = true := by
  rw [ab_tst x hi]
  cases hb : bt x i
  · exact ⟨fun z => absurd z (by decide), fun z => absurd z (by decide)⟩
  · exact ⟨fun _ => rfl, fun _ => rfl⟩
theorem ab_n0 (x : Int32) {i : Nat} (hi : i < 32) : ¬ ((x >>> (nI i &&& 31)) &&& 1) = 0 ↔ bt x i = true := by
  rw [ab_t0 x hi]
  cases bt x i
  · exact ⟨fun z => absurd rfl z, fun z => absurd z (by decide)⟩
  · exact ⟨fun _ => rfl, fun _ => by decide⟩
theorem ab_one {n : Nat} (hn : n < 32) (i : Nat) : bt ((1 : Int32) <<< (nI n &&& 31)) i = decide (i = n) := by
  rcases Nat.lt_or_ge i 32 with h | h
  · rw [b_shl n hn 1 h, ab_1 (i - n) (by omega)]
    rcases Nat.lt_or_ge i n with z | z
    · rw [decide_eq_false (by omega : ¬ n ≤ i), decide_eq_false (by omega : ¬ i = n)]; rfl
    · rw [decide_eq_true z, Bool.true_and]
      rcases Nat.decEq i n with y | y
      · rw [decide_eq_false y, decide_eq_false (by omega : ¬ i - n = 0)]
      · rw [decide_eq_true y, decide_eq_true (by omega : i - n = 0)]
  · rw [b_big h, decide_eq_false (by omega : ¬ i = n)]
theorem ab_set {n : Nat} (hn : n < 32) (x : Int32) (i : Nat) : bt (x ||| ((1 : Int32) <<< (nI n &&& 31))) i = true ↔ bt x i = true ∨ i = n := by
  rw [b_or, ab_one hn, Bool.or_eq_true, decide_eq_true_iff]
theorem ab_clr {n : Nat} (hn : n < 32) (x : Int32) (i : Nat) : bt (x &&& (((1 : Int32) <<< (nI n &&& 31)) ^^^ (-1))) i = true ↔ bt x i = true ∧ i ≠ n := by
  rcases Nat.lt_or_ge i 32 with h | h
  · rw [b_and, b_xor, ab_one hn, b_m1 i h, Bool.and_eq_true, Bool.xor_true, Bool.not_eq_true', decide_eq_false_iff_not]
  · rw [b_big h, b_big h]
    exact ⟨fun z => absurd z (by decide), fun z => absurd z.1 (by decide)⟩
theorem ab_orI (x y : Int32) (i : Nat) : bt (x ||| y) i = true ↔ bt x i = true ∨ bt y i = true := by rw [b_or, Bool.or_eq_true]
theorem ab_andI (x y : Int32) (i : Nat) : bt (x &&& y) i = true ↔ bt x i = true ∧ bt y i = true := by rw [b_and, Bool.and_eq_true]
theorem ab_nz {x : Int32} (h : ¬ x = 0) : ∃ i, bt x i = true := by
  apply Classical.byContradiction
  intro z
  apply h
  apply b_ext
  intro i _
  rw [b_0]
  cases hb : bt x i
  · rfl
  · exact absurd ⟨i, hb⟩ z
theorem ab_zz {i : Nat} : ¬ bt 0 i = true := by rw [b_0]; decide
theorem ab_lt {x : Int32} {i : Nat} (h : bt x i = true) : i < 32 := by
  rcases Nat.lt_or_ge i 32 with z | z
  · exact z
  · rw [b_big z] at h; exact absurd h (by decide)
theorem ab_eq {x y : Int32} (h : ∀ i, bt x i = true ↔ bt y i = true) : x = y := by
  apply b_ext
  intro i _
  have := h i
  cases hx : bt x i <;> cases hy : bt y i
  · rfl
  · exact absurd (this.mpr hy) (by rw [hx]; decide)
  · exact absurd (this.mp hx) (by rw [hy]; decide)
  · rfl
theorem ab_nf {b : Bool} (h : ¬ b = false) : b = true := by cases b <;> first | rfl | exact absurd rfl h
theorem ab_nt {b : Bool} (h : ¬ b = true) : b = false := by cases b <;> first | rfl | exact absurd rfl h
/-! longs -/
def bl (x : Int64) (i : Nat) : Bool := x.toBitVec.getLsbD i
theorem bl_or (x y : Int64) (i : Nat) : bl (x ||| y) i = (bl x i || bl y i) := by unfold bl; rw [Int64.toBitVec_or, BitVec.getLsbD_or]
theorem bl_and (x y : Int64) (i : Nat) : bl (x &&& y) i = (bl x i && bl y i) := by unfold bl; rw [Int64.toBitVec_and, BitVec.getLsbD_and]
theorem bl_ext {x y : Int64} (h : ∀ i, i < 64 → bl x i = bl y i) : x = y := Int64.toBitVec_inj.mp (BitVec.eq_of_getLsbD_eq (fun i hi => h i hi))
theorem bl_0 (i : Nat) : bl 0 i = false := BitVec.getLsbD_zero
theorem bl_1 : ∀ i, i < 64 → bl 1 i = decide (i = 0) := by decide +kernel
theorem bl_128 : ∀ i, i < 64 → bl (-128) i = decide (7 ≤ i) := by decide +kernel
theorem bl_big {x : Int64} {i : Nat} (h : 64 ≤ i) : bl x i = false := BitVec.getLsbD_of_ge _ _ h
theorem sl_l : ∀ n, n < 64 → (((nI n).toInt64 &&& 63).toBitVec.smod 64).toNat = n := by decide +kernel
theorem bl_shl (n : Nat) (hn : n < 64) (x : Int64) {i : Nat} (hi : i < 64) : bl (x <<< ((nI n).toInt64 &&& 63)) i = (decide (n ≤ i) && bl x (i - n)) := by
  unfold bl
  rw [Int64.toBitVec_shiftLeft]
  show (x.toBitVec <<< (((nI n).toInt64 &&& 63).toBitVec.smod 64).toNat).getLsbD i = _
  rw [sl_l n hn, BitVec.getLsbD_shiftLeft]
  rcases Nat.lt_or_ge i n with h | h
  · simp [h, Nat.not_le.mpr h]
  · simp [hi, h, Nat.not_lt.mpr h]
theorem bl_sshr (n : Nat) (hn : n < 64) (x : Int64) {i : Nat} (hi : i < 64) : bl (x >>> ((nI n).toInt64 &&& 63)) i = if n + i < 64 then bl x (n + i) else bl x 63 := by
  unfold bl
  rw [Int64.toBitVec_shiftRight]
  show (x.toBitVec.sshiftRight (((nI n).toInt64 &&& 63).toBitVec.smod 64).toNat).getLsbD i = _
  rw [sl_l n hn, BitVec.getLsbD_sshiftRight, BitVec.msb_eq_getLsbD_last]
  simp [hi]
theorem bl_low {z : Int64} : (z &&& 1) = 0 ↔ bl z 0 = false := by
  constructor
  · intro h
    have e : bl (z &&& 1) 0 = bl 0 0 := by rw [h]
    rw [bl_and, bl_1 0 (by omega), bl_0] at e
    cases hb : bl z 0
    · rfl
    · rw [hb] at e; exact absurd e (by decide)
  · intro h
    apply bl_ext
    intro i hi
    rw [bl_and, bl_1 i hi, bl_0]
    rcases Nat.eq_zero_or_pos i with y | y
    · subst y; rw [h]; rfl
    · rw [decide_eq_false (by omega : ¬ i = 0), Bool.and_false]
theorem bl_t0 (x : Int64) {n : Nat} (hn : n < 64) : ((x >>> ((nI n).toInt64 &&& 63)) &&& 1) = 0 ↔ bl x n = false := by
  rw [bl_low, bl_sshr n hn x (by omega), Nat.add_zero, if_pos hn]
theorem bl_t2 (x y : Int64) {n m : Nat} (hn : n < 64) (hm : m < 64) : (((x >>> ((nI n).toInt64 &&& 63)) &&& (y >>> ((nI m).toInt64 &&& 63))) &&& 1) = 0 ↔ ¬ (bl x n = true ∧ bl y m = true) := by
  rw [bl_low, bl_and, bl_sshr n hn x (by omega), bl_sshr m hm y (by omega), Nat.add_zero, Nat.add_zero, if_pos hn, if_pos hm]
  cases bl x n <;> cases bl y m <;> simp
theorem bl_one {n : Nat} (hn : n < 64) (i : Nat) : bl ((1 : Int64) <<< ((nI n).toInt64 &&& 63)) i = decide (i = n) := by
  rcases Nat.lt_or_ge i 64 with h | h
  · rw [bl_shl n hn 1 h, bl_1 (i - n) (by omega)]
    rcases Nat.lt_or_ge i n with z | z
    · rw [decide_eq_false (by omega : ¬ n ≤ i), decide_eq_false (by omega : ¬ i = n)]; rfl
    · rw [decide_eq_true z, Bool.true_and]
      rcases Nat.decEq i n with y | y
      · rw [decide_eq_false y, decide_eq_false (by omega : ¬ i - n = 0)]
      · rw [decide_eq_true y, decide_eq_true (by omega : i - n = 0)]
  · rw [bl_big h, decide_eq_false (by omega : ¬ i = n)]
theorem bl_orI (x y : Int64) (i : Nat) : bl (x ||| y) i = true ↔ bl x i = true ∨ bl y i = true := by rw [bl_or, Bool.or_eq_true]
theorem bl_set {n : Nat} (hn : n < 64) (x : Int64) (i : Nat) : bl (x ||| ((1 : Int64) <<< ((nI n).toInt64 &&& 63))) i = true ↔ bl x i = true ∨ i = n := by
  rw [bl_or, bl_one hn, Bool.or_eq_true, decide_eq_true_iff]
theorem bl_hi {x : Int64} {i : Nat} (h : bl x i = true) (h7 : 7 ≤ i) : bl (x &&& (-128)) i = true := by
  rcases Nat.lt_or_ge i 64 with z | z
  · rw [bl_and, h, bl_128 i z, decide_eq_true h7]; rfl
  · rw [bl_big z] at h; exact absurd h (by decide)
theorem bl_ne0 {x : Int64} {i : Nat} (h : bl x i = true) : ¬ x = 0 := by
  intro e; rw [e, bl_0] at h; exact absurd h (by decide)
theorem bl_w (p : Int32) {i : Nat} (hi : i < 31) : bl (p.toInt64 <<< ((1 : Int32).toInt64 &&& 63)) (i + 1) = bt p i := by
  have h := bl_shl 1 (by omega) p.toInt64 (i := i + 1) (by omega)
  have e : (nI 1).toInt64 = (1 : Int32).toInt64 := by decide +kernel
  rw [e] at h
  rw [h, decide_eq_true (by omega : 1 ≤ i + 1), Bool.true_and, Nat.add_sub_cancel]
  unfold bl bt
  rw [Int32.toBitVec_toInt64, BitVec.getLsbD_signExtend]
  simp only [show i < 32 by omega, show i < 64 by omega, decide_true, Bool.true_and, if_true]
end
section
/-! ===== relations over spans, and the language of a node list ===== -/
section
variable {A B S : Nat → Nat → Prop}
def aa_it (A : Nat → Nat → Prop) : Nat → Nat → Nat → Prop
  | 0 => A
  | n + 1 => fun s e => ∃ m, A s m ∧ aa_it A n m e
def aa_pl (A : Nat → Nat → Prop) (s e : Nat) : Prop := ∃ n, aa_it A n s e
theorem aa_it_trans : ∀ (a b : Nat) {s m e : Nat}, aa_it A a s m → aa_it A b m e → aa_it A (a + b + 1) s e
  | 0, b, s, m, e, h1, h2 => by
    rw [Nat.zero_add]; exact ⟨m, h1, h2⟩
  | a + 1, b, s, m, e, h1, h2 => by
    obtain ⟨k, hk, h1⟩ := h1
    have h := aa_it_trans a b h1 h2
    have e1 : a + 1 + b + 1 = (a + b + 1) + 1 := by omega
    rw [e1]; exact ⟨k, hk, h⟩
theorem aa_pl_trans {s m e : Nat} (h1 : aa_pl A s m) (h2 : aa_pl A m e) : aa_pl A s e := by
  obtain ⟨a, h1⟩ := h1
  obtain ⟨b, h2⟩ := h2
  exact ⟨_, aa_it_trans a b h1 h2⟩
theorem aa_pl_1 {s e : Nat} (h : A s e) : aa_pl A s e := ⟨0, h⟩
theorem aa_pl_least {s e : Nat} (h1 : ∀ a b, A a b → S a b) (h2 : ∀ a b c, A a b → S b c → S a c) (h : aa_pl A s e) : S s e := by
  obtain ⟨n, h⟩ := h
  induction n generalizing s with
  | zero => exact h1 _ _ h
  | succ n ih =>
    obtain ⟨m, hm, h⟩ := h
    exact h2 _ _ _ hm (ih h)
theorem aa_pl_mono {s e : Nat} (h1 : ∀ a b, A a b → B a b) (h : aa_pl A s e) : aa_pl B s e :=
  aa_pl_least (fun a b z => aa_pl_1 (h1 a b z)) (fun a b c z y => aa_pl_trans (aa_pl_1 (h1 a b z)) y) h
end
def aa_leaf (t : Nat → Nat) (k m : Int32) (s e : Nat) : Prop := (k = 0 ∧ e = s) ∨ (¬ k = 0 ∧ e = s + 1 ∧ bt m (t s) = true)
def aa_bin (k : Int32) (A B : Nat → Nat → Prop) (s e : Nat) : Prop := (k = 4 ∧ (A s e ∨ B s e)) ∨ (¬ k = 4 ∧ ∃ m, A s m ∧ B m e)
def aa_un (k : Int32) (A : Nat → Nat → Prop) (s e : Nat) : Prop := (k = 7 ∧ A s e) ∨ (¬ k = 7 ∧ aa_pl A s e) ∨ (¬ k = 6 ∧ e = s)
/-- the depth of the stack after n nodes -/
def aa_dep (K : Nat → Int32) : Nat → Nat
  | 0 => 0
  | n + 1 => if 2 < K n then (if 4 < K n then aa_dep K n else aa_dep K n - 1) else aa_dep K n + 1
/-- span (s, e) of text t is a word of the x-th expression after n nodes -/
def aa_stk (t : Nat → Nat) (K M : Nat → Int32) : Nat → Nat → Nat → Nat → Prop
  | 0, _, _, _ => False
  | n + 1, x, s, e =>
    if 2 < K n then
      (if 4 < K n then (if x + 1 = aa_dep K n then aa_un (K n) (aa_stk t K M n x) s e else aa_stk t K M n x s e)
       else (if x + 2 = aa_dep K n then aa_bin (K n) (aa_stk t K M n x) (aa_stk t K M n (x + 1)) s e else aa_stk t K M n x s e))
    else (if x = aa_dep K n then aa_leaf t (K n) (M n) s e else aa_stk t K M n x s e)
section
variable {K K' M M' : Nat → Int32} {t : Nat → Nat}
theorem aa_dep_leaf {n : Nat} (h : ¬ 2 < K n) : aa_dep K (n + 1) = aa_dep K n + 1 := by
  show (if 2 < K n then (if 4 < K n then aa_dep K n else aa_dep K n - 1) else aa_dep K n + 1) = _
  rw [if_neg h]
theorem aa_dep_bin {n : Nat} (h : 2 < K n) (h4 : ¬ 4 < K n) : aa_dep K (n + 1) = aa_dep K n - 1 := by
  show (if 2 < K n then (if 4 < K n then aa_dep K n else aa_dep K n - 1) else aa_dep K n + 1) = _
  rw [if_pos h, if_neg h4]
theorem aa_dep_un {n : Nat} (h : 2 < K n) (h4 : 4 < K n) : aa_dep K (n + 1) = aa_dep K n := by
  show (if 2 < K n then (if 4 < K n then aa_dep K n else aa_dep K n - 1) else aa_dep K n + 1) = _
  rw [if_pos h, if_pos h4]
theorem aa_stk_leaf {n : Nat} (h : ¬ 2 < K n) (x s e : Nat) : aa_stk t K M (n + 1) x s e ↔ if x = aa_dep K n then aa_leaf t (K n) (M n) s e else aa_stk t K M n x s e := by
  rw [aa_stk, if_neg h]
theorem aa_stk_bin {n : Nat} (h : 2 < K n) (h4 : ¬ 4 < K n) (x s e : Nat) : aa_stk t K M (n + 1) x s e ↔ if x + 2 = aa_dep K n then aa_bin (K n) (aa_stk t K M n x) (aa_stk t K M n (x + 1)) s e else aa_stk t K M n x s e := by
  rw [aa_stk, if_pos h, if_neg h4]
theorem aa_stk_un {n : Nat} (h : 2 < K n) (h4 : 4 < K n) (x s e : Nat) : aa_stk t K M (n + 1) x s e ↔ if x + 1 = aa_dep K n then aa_un (K n) (aa_stk t K M n x) s e else aa_stk t K M n x s e := by
  rw [aa_stk, if_pos h, if_pos h4]
theorem aa_dep_congr : ∀ {n : Nat}, (∀ i, i < n → K i = K' i) → aa_dep K n = aa_dep K' n
  | 0, _ => rfl
  | n + 1, h => by
    have ih := aa_dep_congr (n := n) (fun i hi => h i (by omega))
    show (if 2 < K n then (if 4 < K n then aa_dep K n else aa_dep K n - 1) else aa_dep K n + 1) = (if 2 < K' n then (if 4 < K' n then aa_dep K' n else aa_dep K' n - 1) else aa_dep K' n + 1)
    rw [h n (by omega), ih]
theorem aa_stk_congr : ∀ {n : Nat}, (∀ i, i < n → K i = K' i) → (∀ i, i < n → M i = M' i) → aa_stk t K M n = aa_stk t K' M' n
  | 0, _, _ => rfl
  | n + 1, h, g => by
    have ih := aa_stk_congr (n := n) (fun i hi => h i (by omega)) (fun i hi => g i (by omega))
    have id := aa_dep_congr (n := n) (fun i hi => h i (by omega))
    funext x s e
    rw [aa_stk, aa_stk, h n (by omega), g n (by omega), ih, id]
theorem aa_un_le {k : Int32} {A : Nat → Nat → Prop} (hA : ∀ s e, A s e → s ≤ e) {s e : Nat} (h : aa_un k A s e) : s ≤ e := by
  rcases h with h | h | h
  · exact hA _ _ h.2
  · exact aa_pl_least (S := fun s e => s ≤ e) hA (fun a b c h1 h2 => Nat.le_trans (hA _ _ h1) h2) h.2
  · omega
theorem aa_bin_le {k : Int32} {A B : Nat → Nat → Prop} (hA : ∀ s e, A s e → s ≤ e) (hB : ∀ s e, B s e → s ≤ e) {s e : Nat} (h : aa_bin k A B s e) : s ≤ e := by
  rcases h with h | h
  · rcases h.2 with h | h
    · exact hA _ _ h
    · exact hB _ _ h
  · obtain ⟨_, m, h1, h2⟩ := h
    exact Nat.le_trans (hA _ _ h1) (hB _ _ h2)
theorem aa_leaf_le {k m : Int32} {s e : Nat} (h : aa_leaf t k m s e) : s ≤ e := by
  rcases h with h | h <;> omega
theorem aa_stk_le : ∀ (n x s e : Nat), aa_stk t K M n x s e → s ≤ e
  | 0, _, _, _, h => h.elim
  | n + 1, x, s, e, h => by
    have ih := aa_stk_le n
    rw [aa_stk] at h
    by_cases h2 : 2 < K n
    · rw [if_pos h2] at h
      by_cases h4 : 4 < K n
      · rw [if_pos h4] at h
        by_cases hx : x + 1 = aa_dep K n
        · rw [if_pos hx] at h; exact aa_un_le (fun s e => ih x s e) h
        · rw [if_neg hx] at h; exact ih _ _ _ h
      · rw [if_neg h4] at h
        by_cases hx : x + 2 = aa_dep K n
        · rw [if_pos hx] at h; exact aa_bin_le (fun s e => ih x s e) (fun s e => ih (x + 1) s e) h
        · rw [if_neg hx] at h; exact ih _ _ _ h
    · rw [if_neg h2] at h
      by_cases hx : x = aa_dep K n
      · rw [if_pos hx] at h; exact aa_leaf_le h
      · rw [if_neg hx] at h; exact ih _ _ _ h
end
end
section
/-! ===== runs of a position automaton ===== -/
def aa_run (ac fo : Nat → Nat → Prop) (t : Nat → Nat) (p s : Nat) : Nat → Nat → Prop
  | 0 => fun q => p = q ∧ ac q (t s)
  | n + 1 => fun q => ∃ r, aa_run ac fo t p s n r ∧ fo r q ∧ ac q (t (s + n + 1))
def aa_aut (ac fo : Nat → Nat → Prop) (t : Nat → Nat) (nu : Prop) (F L : Nat → Prop) (s e : Nat) : Prop :=
  (nu ∧ e = s) ∨ ∃ n p q, e = s + n + 1 ∧ F p ∧ L q ∧ aa_run ac fo t p s n q
section
variable {ac ac' fo fo' : Nat → Nat → Prop} {t : Nat → Nat} {O : Nat → Prop}
theorem aa_run_o (hO : ∀ p q, O p → fo p q → O q) {p s : Nat} (hp : O p) : ∀ {n q : Nat}, aa_run ac fo t p s n q → O q
  | 0, q, h => by
    obtain ⟨e, _⟩ := h
    rw [← e]; exact hp
  | n + 1, q, h => by
    obtain ⟨r, h1, h2, _⟩ := h
    exact hO r q (aa_run_o hO hp h1) h2
theorem aa_run_mono (hf : ∀ p q, fo p q → fo' p q) {p s : Nat} : ∀ {n q : Nat}, aa_run ac fo t p s n q → aa_run ac fo' t p s n q
  | 0, q, h => h
  | n + 1, q, h => by
    obtain ⟨r, h1, h2, h3⟩ := h
    exact ⟨r, aa_run_mono hf h1, hf _ _ h2, h3⟩
theorem aa_run_congr (hO : ∀ p q, O p → fo p q → O q) (hf : ∀ p q, O p → (fo p q ↔ fo' p q)) (ha : ∀ p c, O p → (ac p c ↔ ac' p c)) {p s : Nat} (hp : O p) : ∀ {n q : Nat}, aa_run ac fo t p s n q ↔ aa_run ac' fo' t p s n q
  | 0, q => by
    constructor
    · intro h
      obtain ⟨e, h⟩ := h
      exact ⟨e, (ha q _ (e ▸ hp)).mp h⟩
    · intro h
      obtain ⟨e, h⟩ := h
      exact ⟨e, (ha q _ (e ▸ hp)).mpr h⟩
  | n + 1, q => by
    constructor
    · intro h
      obtain ⟨r, h1, h2, h3⟩ := h
      have hr := aa_run_o hO hp h1
      exact ⟨r, (aa_run_congr hO hf ha hp).mp h1, (hf _ _ hr).mp h2, (ha _ _ (hO _ _ hr h2)).mp h3⟩
    · intro h
      obtain ⟨r, h1, h2, h3⟩ := h
      have h1' := (aa_run_congr hO hf ha hp).mpr h1
      have hr := aa_run_o hO hp h1'
      have h2' := (hf _ _ hr).mpr h2
      exact ⟨r, h1', h2', (ha _ _ (hO _ _ hr h2')).mpr h3⟩
theorem aa_aut_congr (hO : ∀ p q, O p → fo p q → O q) (hf : ∀ p q, O p → (fo p q ↔ fo' p q)) (ha : ∀ p c, O p → (ac p c ↔ ac' p c)) {nu : Prop} {F L : Nat → Prop} (hF : ∀ p, F p → O p) {s e : Nat} : aa_aut ac fo t nu F L s e ↔ aa_aut ac' fo' t nu F L s e := by
  constructor
  · intro h
    rcases h with h | h
    · exact Or.inl h
    · obtain ⟨n, p, q, h1, h2, h3, h4⟩ := h
      exact Or.inr ⟨n, p, q, h1, h2, h3, (aa_run_congr hO hf ha (hF _ h2)).mp h4⟩
  · intro h
    rcases h with h | h
    · exact Or.inl h
    · obtain ⟨n, p, q, h1, h2, h3, h4⟩ := h
      exact Or.inr ⟨n, p, q, h1, h2, h3, (aa_run_congr hO hf ha (hF _ h2)).mpr h4⟩
theorem aa_run_cat {p s a b j : Nat} (h1 : aa_run ac fo t p s j a) (hab : fo a b) : ∀ {k q : Nat}, aa_run ac fo t b (s + j + 1) k q → aa_run ac fo t p s (j + k + 1) q
  | 0, q, h => by
    obtain ⟨e, h⟩ := h
    subst e
    exact ⟨a, h1, hab, h⟩
  | k + 1, q, h => by
    obtain ⟨r, h2, h3, h4⟩ := h
    have ih := aa_run_cat h1 hab h2
    have e : s + j + 1 + k + 1 = s + (j + k + 1) + 1 := by omega
    rw [e] at h4
    exact ⟨r, ih, h3, h4⟩
/-- a run has a run of each shorter length ahead of it -/
theorem aa_run_pre {p s k : Nat} : ∀ {j q : Nat}, aa_run ac fo t p s (k + j) q → ∃ r, aa_run ac fo t p s k r
  | 0, q, h => ⟨q, h⟩
  | j + 1, q, h => by
    obtain ⟨r, h1, _⟩ := h
    exact aa_run_pre h1
/-! alternative -/
theorem aa_alt {O1 O2 : Nat → Prop} (h1 : ∀ p q, O1 p → fo p q → O1 q) (h2 : ∀ p q, O2 p → fo p q → O2 q) (hd : ∀ p, O1 p → O2 p → False)
    {n1 n2 : Prop} {F1 F2 L1 L2 : Nat → Prop} (f1 : ∀ p, F1 p → O1 p) (f2 : ∀ p, F2 p → O2 p) (l1 : ∀ p, L1 p → O1 p) (l2 : ∀ p, L2 p → O2 p) {s e : Nat} :
    aa_aut ac fo t (n1 ∨ n2) (fun p => F1 p ∨ F2 p) (fun p => L1 p ∨ L2 p) s e ↔ aa_aut ac fo t n1 F1 L1 s e ∨ aa_aut ac fo t n2 F2 L2 s e := by
  constructor
  · intro h
    rcases h with h | h
    · rcases h.1 with z | z
      · exact Or.inl (Or.inl ⟨z, h.2⟩)
      · exact Or.inr (Or.inl ⟨z, h.2⟩)
    · obtain ⟨n, p, q, he, hp, hq, hr⟩ := h
      rcases hp with hp | hp <;> rcases hq with hq | hq
      · exact Or.inl (Or.inr ⟨n, p, q, he, hp, hq, hr⟩)
      · exact (hd q (aa_run_o h1 (f1 p hp) hr) (l2 q hq)).elim
      · exact (hd q (l1 q hq) (aa_run_o h2 (f2 p hp) hr)).elim
      · exact Or.inr (Or.inr ⟨n, p, q, he, hp, hq, hr⟩)
  · intro h
    rcases h with h | h <;> rcases h with h | h
    · exact Or.inl ⟨Or.inl h.1, h.2⟩
    · obtain ⟨n, p, q, he, hp, hq, hr⟩ := h
      exact Or.inr ⟨n, p, q, he, Or.inl hp, Or.inl hq, hr⟩
    · exact Or.inl ⟨Or.inr h.1, h.2⟩
    · obtain ⟨n, p, q, he, hp, hq, hr⟩ := h
      exact Or.inr ⟨n, p, q, he, Or.inr hp, Or.inr hq, hr⟩
/-! concatenation -/
theorem aa_cat_run {O1 O2 L1 F2 : Nat → Prop} (h1 : ∀ p q, O1 p → fo p q → O1 q) (h2 : ∀ p q, O2 p → fo p q → O2 q) (hd : ∀ p, O1 p → O2 p → False)
    (f2 : ∀ p, F2 p → O2 p) (l1 : ∀ p, L1 p → O1 p) (hf : ∀ p q, fo' p q ↔ fo p q ∨ (L1 p ∧ F2 q)) {p s : Nat} (hp : O1 p) :
    ∀ {n q : Nat}, aa_run ac fo' t p s n q → (O1 q ∧ aa_run ac fo t p s n q) ∨ (O2 q ∧ ∃ j k a b, n = j + k + 1 ∧ L1 a ∧ F2 b ∧ aa_run ac fo t p s j a ∧ aa_run ac fo t b (s + j + 1) k q)
  | 0, q, h => Or.inl ⟨h.1 ▸ hp, h⟩
  | n + 1, q, h => by
    obtain ⟨r, hr, hrq, hc⟩ := h
    rcases aa_cat_run h1 h2 hd f2 l1 hf hp hr with z | z
    · rcases (hf _ _).mp hrq with y | y
      · exact Or.inl ⟨h1 _ _ z.1 y, r, z.2, y, hc⟩
      · exact Or.inr ⟨f2 _ y.2, n, 0, r, q, by omega, y.1, y.2, z.2, rfl, hc⟩
    · obtain ⟨zo, j, k, a, b, hn, ha, hb, hj, hk⟩ := z
      rcases (hf _ _).mp hrq with y | y
      · refine Or.inr ⟨h2 _ _ zo y, j, k + 1, a, b, by omega, ha, hb, hj, r, hk, y, ?_⟩
        have e : s + j + 1 + k + 1 = s + n + 1 := by omega
        rw [e]; exact hc
      · exact (hd r (l1 r y.1) zo).elim
theorem aa_cat {O1 O2 : Nat → Prop} (h1 : ∀ p q, O1 p → fo p q → O1 q) (h2 : ∀ p q, O2 p → fo p q → O2 q) (hd : ∀ p, O1 p → O2 p → False)
    {n1 n2 : Prop} {F1 F2 L1 L2 : Nat → Prop} (f1 : ∀ p, F1 p → O1 p) (f2 : ∀ p, F2 p → O2 p) (l1 : ∀ p, L1 p → O1 p) (l2 : ∀ p, L2 p → O2 p)
    (hf : ∀ p q, fo' p q ↔ fo p q ∨ (L1 p ∧ F2 q)) {s e : Nat} :
    aa_aut ac fo' t (n1 ∧ n2) (fun p => F1 p ∨ (n1 ∧ F2 p)) (fun p => L2 p ∨ (n2 ∧ L1 p)) s e ↔ ∃ m, aa_aut ac fo t n1 F1 L1 s m ∧ aa_aut ac fo t n2 F2 L2 m e := by
  have g2 : ∀ p q, O2 p → (fo' p q ↔ fo p q) := fun p q hp => ⟨fun z => ((hf p q).mp z).elim id (fun y => (hd p (l1 p y.1) hp).elim), fun z => (hf p q).mpr (Or.inl z)⟩
  have g2' : ∀ p q, O2 p → fo' p q → O2 q := fun p q hp z => h2 p q hp ((g2 p q hp).mp z)
  have mono : ∀ p q, fo p q → fo' p q := fun p q z => (hf p q).mpr (Or.inl z)
  constructor
  · intro h
    rcases h with h | h
    · exact ⟨s, Or.inl ⟨h.1.1, rfl⟩, Or.inl ⟨h.1.2, h.2⟩⟩
    · obtain ⟨n, p, q, he, hp, hq, hr⟩ := h
      rcases hp with hp | hp
      · rcases aa_cat_run h1 h2 hd f2 l1 hf (f1 p hp) hr with z | z
        · rcases hq with hq | hq
          · exact (hd q z.1 (l2 q hq)).elim
          · exact ⟨e, Or.inr ⟨n, p, q, he, hp, hq.2, z.2⟩, Or.inl ⟨hq.1, rfl⟩⟩
        · obtain ⟨zo, j, k, a, b, hn, ha, hb, hj, hk⟩ := z
          rcases hq with hq | hq
          · exact ⟨s + j + 1, Or.inr ⟨j, p, a, rfl, hp, ha, hj⟩, Or.inr ⟨k, b, q, by omega, hb, hq, hk⟩⟩
          · exact (hd q (l1 q hq.2) zo).elim
      · have hr' := (aa_run_congr (O := O2) g2' g2 (fun _ _ _ => Iff.rfl) (f2 p hp.2)).mp hr
        have hq2 := aa_run_o h2 (f2 p hp.2) hr'
        rcases hq with hq | hq
        · exact ⟨s, Or.inl ⟨hp.1, rfl⟩, Or.inr ⟨n, p, q, he, hp.2, hq, hr'⟩⟩
        · exact (hd q (l1 q hq.2) hq2).elim
  · intro h
    obtain ⟨m, ha, hb⟩ := h
    rcases ha with ha | ha
    · rcases hb with hb | hb
      · exact Or.inl ⟨⟨ha.1, hb.1⟩, by omega⟩
      · obtain ⟨n, p, q, he, hp, hq, hr⟩ := hb
        have e1 : m = s := ha.2
        subst e1
        exact Or.inr ⟨n, p, q, he, Or.inr ⟨ha.1, hp⟩, Or.inl hq, aa_run_mono mono hr⟩
    · obtain ⟨j, p, a, hm, hp, hq, hr⟩ := ha
      rcases hb with hb | hb
      · exact Or.inr ⟨j, p, a, by omega, Or.inl hp, Or.inr ⟨hb.1, hq⟩, aa_run_mono mono hr⟩
      · obtain ⟨k, b, q, he, hb, hq2, hr2⟩ := hb
        subst hm
        exact Or.inr ⟨j + k + 1, p, q, by omega, Or.inl hp, Or.inl hq2, aa_run_cat (aa_run_mono mono hr) ((hf a b).mpr (Or.inr ⟨hq, hb⟩)) (aa_run_mono mono hr2)⟩
/-! repetition -/
theorem aa_plus_run {F L : Nat → Prop} (hf : ∀ p q, fo' p q ↔ fo p q ∨ (L p ∧ F q)) {p s : Nat} :
    ∀ {n q : Nat}, aa_run ac fo' t p s n q → aa_run ac fo t p s n q ∨ ∃ j k a b, n = j + k + 1 ∧ L a ∧ F b ∧ aa_run ac fo' t p s j a ∧ aa_run ac fo t b (s + j + 1) k q
  | 0, q, h => Or.inl h
  | n + 1, q, h => by
    obtain ⟨r, hr, hrq, hc⟩ := h
    rcases (hf _ _).mp hrq with y | y
    · rcases aa_plus_run hf hr with z | z
      · exact Or.inl ⟨r, z, y, hc⟩
      · obtain ⟨j, k, a, b, hn, ha, hb, hj, hk⟩ := z
        refine Or.inr ⟨j, k + 1, a, b, by omega, ha, hb, hj, r, hk, y, ?_⟩
        have e : s + j + 1 + k + 1 = s + n + 1 := by omega
        rw [e]; exact hc
    · exact Or.inr ⟨n, 0, r, q, by omega, y.1, y.2, hr, rfl, hc⟩
theorem aa_plus_pl {nu : Prop} {F L : Nat → Prop} (hf : ∀ p q, fo' p q ↔ fo p q ∨ (L p ∧ F q)) {p s : Nat} (hp : F p) :
    ∀ (b n : Nat), n ≤ b → ∀ q, L q → aa_run ac fo' t p s n q → aa_pl (aa_aut ac fo t nu F L) s (s + n + 1) := by
  intro b
  induction b with
  | zero =>
    intro n hn q hq hr
    have e : n = 0 := by omega
    subst e
    exact aa_pl_1 (Or.inr ⟨0, p, q, rfl, hp, hq, hr⟩)
  | succ b ih =>
    intro n hn q hq hr
    rcases aa_plus_run hf hr with z | z
    · exact aa_pl_1 (Or.inr ⟨n, p, q, rfl, hp, hq, z⟩)
    · obtain ⟨j, k, a, c, hn', ha, hc, hj, hk⟩ := z
      have h1 := ih j (by omega) a ha hj
      have h2 : aa_aut ac fo t nu F L (s + j + 1) (s + n + 1) := Or.inr ⟨k, c, q, by omega, hc, hq, hk⟩
      exact aa_pl_trans h1 (aa_pl_1 h2)
theorem aa_plus {nu : Prop} {F L : Nat → Prop} (hf : ∀ p q, fo' p q ↔ fo p q ∨ (L p ∧ F q)) {s e : Nat} :
    aa_aut ac fo' t nu F L s e ↔ aa_pl (aa_aut ac fo t nu F L) s e := by
  have mono : ∀ p q, fo p q → fo' p q := fun p q z => (hf p q).mpr (Or.inl z)
  have m1 : ∀ a b, aa_aut ac fo t nu F L a b → aa_aut ac fo' t nu F L a b := by
    intro a b h
    rcases h with h | h
    · exact Or.inl h
    · obtain ⟨n, p, q, he, hp, hq, hr⟩ := h
      exact Or.inr ⟨n, p, q, he, hp, hq, aa_run_mono mono hr⟩
  constructor
  · intro h
    rcases h with h | h
    · exact aa_pl_1 (Or.inl h)
    · obtain ⟨n, p, q, he, hp, hq, hr⟩ := h
      rw [he]
      exact aa_plus_pl hf hp n n (Nat.le_refl n) q hq hr
  · intro h
    refine aa_pl_least m1 ?_ h
    intro a b c h1 h2
    rcases h1 with h1 | h1
    · have e1 : b = a := h1.2
      subst e1; exact h2
    · obtain ⟨j, p, x, he, hp, hq, hr⟩ := h1
      rcases h2 with h2 | h2
      · have e1 : c = b := h2.2
        subst e1
        exact Or.inr ⟨j, p, x, he, hp, hq, aa_run_mono mono hr⟩
      · obtain ⟨k, y, q, he2, hy, hq2, hr2⟩ := h2
        subst he
        exact Or.inr ⟨j + k + 1, p, q, by omega, hp, hq2, aa_run_cat (aa_run_mono mono hr) ((hf x y).mpr (Or.inr ⟨hq, hy⟩)) hr2⟩
theorem aa_opt {nu : Prop} {F L : Nat → Prop} {s e : Nat} : aa_aut ac fo t True F L s e ↔ aa_aut ac fo t nu F L s e ∨ e = s := by
  constructor
  · intro h
    rcases h with h | h
    · exact Or.inr h.2
    · exact Or.inl (Or.inr h)
  · intro h
    rcases h with h | h
    · rcases h with h | h
      · exact Or.inl ⟨trivial, h.2⟩
      · exact Or.inr h
    · exact Or.inl ⟨trivial, h⟩
theorem aa_aut_iff {nu nu' : Prop} {F F' L L' : Nat → Prop} (h1 : nu ↔ nu') (h2 : ∀ p, F p ↔ F' p) (h3 : ∀ p, L p ↔ L' p) {s e : Nat} : aa_aut ac fo t nu F L s e ↔ aa_aut ac fo t nu' F' L' s e := by
  have e2 : F = F' := funext fun p => propext (h2 p)
  have e3 : L = L' := funext fun p => propext (h3 p)
  rw [propext h1, e2, e3]
/-- one position alone -/
theorem aa_one {x : Nat} (hx : ∀ q, ¬ fo x q) {s e : Nat} : aa_aut ac fo t False (fun p => p = x) (fun p => p = x) s e ↔ e = s + 1 ∧ ac x (t s) := by
  constructor
  · intro h
    rcases h with h | h
    · exact h.1.elim
    · obtain ⟨n, p, q, he, hp, hq, hr⟩ := h
      subst hp
      cases n with
      | zero =>
        obtain ⟨e1, hr⟩ := hr
        subst e1
        exact ⟨he, hr⟩
      | succ n =>
        exfalso
        have key : ∀ n q, aa_run ac fo t p s (n + 1) q → False := by
          intro n
          induction n with
          | zero =>
            intro q h
            obtain ⟨r, h1, h2, _⟩ := h
            obtain ⟨e1, _⟩ := h1
            subst e1
            exact hx _ h2
          | succ n ih =>
            intro q h
            obtain ⟨r, h1, _⟩ := h
            exact ih r h1
        exact key n q hr
  · intro h
    exact Or.inr ⟨0, x, x, h.1, rfl, rfl, rfl, h.2⟩
end
end
section
/-! ===== the position automaton in int arrays, and what a node does to it ===== -/
def au_in (x : Int32) (p : Nat) : Prop := bt x p = true
def au_ac (ac : Nat → Int32) (p c : Nat) : Prop := bt (ac c) p = true
def au_fo (fo : Nat → Int32) (p q : Nat) : Prop := bt (fo p) q = true
def au_A (nu fi la fo ac : Nat → Int32) (t : Nat → Nat) (x s e : Nat) : Prop :=
  aa_aut (au_ac ac) (au_fo fo) t (¬ nu x = 0) (au_in (fi x)) (au_in (la x)) s e
/-- every position has an owner on the stack; links stay with their owner -/
def au_W (fi la fo ac : Nat → Int32) (ps tp : Nat) (ow : Nat → Nat) : Prop :=
  (∀ p, p < ps → ow p < tp) ∧ (∀ x p, x < tp → au_in (fi x) p → p < ps ∧ ow p = x) ∧ (∀ x p, x < tp → au_in (la x) p → p < ps ∧ ow p = x) ∧
  (∀ p q, p < ps → au_fo fo p q → q < ps ∧ ow q = ow p) ∧ (∀ c p, au_ac ac p c → p < ps)
def au_R (K M : Nat → Int32) (nc : Nat) (nu fi la fo ac : Nat → Int32) (tp : Nat) : Prop :=
  ∀ t x s e, x < tp → (aa_stk t K M nc x s e ↔ au_A nu fi la fo ac t x s e)
def au_AU (K M : Nat → Int32) (nc : Nat) (nu fi la fo ac : Nat → Int32) (ps tp : Nat) : Prop :=
  (∃ ow, au_W fi la fo ac ps tp ow) ∧ au_R K M nc nu fi la fo ac tp
section
variable {K K' M M' nu nu' fi fi' la la' fo fo' ac ac' : Nat → Int32} {nc ps tp : Nat} {ow : Nat → Nat} {t : Nat → Nat}
theorem au_cl (w : au_W fi la fo ac ps tp ow) (x : Nat) : ∀ p q, (p < ps ∧ ow p = x) → au_fo fo p q → (q < ps ∧ ow q = x) :=
  fun p q hp h => ⟨(w.2.2.2.1 p q hp.1 h).1, (w.2.2.2.1 p q hp.1 h).2.trans hp.2⟩
theorem au_stk (hK : ∀ i, i < nc → K' i = K i) (hM : ∀ i, i < nc → M' i = M i) : aa_stk t K' M' nc = aa_stk t K M nc := aa_stk_congr hK hM
/-- an expression that the node leaves alone -/
theorem au_old (w : au_W fi la fo ac ps tp ow) {x : Nat} (hx : x < tp) (en : nu' x = nu x) (ef : fi' x = fi x) (el : la' x = la x)
    (hf : ∀ p q, p < ps → ow p = x → (au_fo fo p q ↔ au_fo fo' p q)) (ha : ∀ p c, p < ps → (au_ac ac p c ↔ au_ac ac' p c)) {s e : Nat} :
    au_A nu fi la fo ac t x s e ↔ au_A nu' fi' la' fo' ac' t x s e := by
  unfold au_A
  rw [en, ef, el]
  exact aa_aut_congr (O := fun p => p < ps ∧ ow p = x) (au_cl w x) (fun p q hp => hf p q hp.1 hp.2) (fun p c hp => ha p c hp.1) (fun p hp => w.2.1 x p hx hp)
theorem au_leaf (H : au_AU K M nc nu fi la fo ac ps tp) (hd : aa_dep K nc = tp) (hK : ∀ i, i < nc → K' i = K i) (hM : ∀ i, i < nc → M' i = M i)
    (h2 : ¬ 2 < K' nc) (h0 : ¬ K' nc = 0) {own : Int32} (ho : ∀ p, au_in own p ↔ p = ps)
    (ha : ∀ c p, au_ac ac' p c ↔ au_ac ac p c ∨ (p = ps ∧ bt (M' nc) c = true)) :
    au_AU K' M' (nc + 1) (upd nu tp 0) (upd fi tp own) (upd la tp own) (upd fo ps 0) ac' (ps + 1) (tp + 1) := by
  obtain ⟨⟨ow, w⟩, hR⟩ := H
  have w1 := w.1
  have w2 := w.2.1
  have w3 := w.2.2.1
  have w4 := w.2.2.2.1
  have w5 := w.2.2.2.2
  refine ⟨⟨fun p => if p = ps then tp else ow p, ?_, ?_, ?_, ?_, ?_⟩, ?_⟩
  · intro p hp
    show (if p = ps then tp else ow p) < tp + 1
    by_cases e : p = ps
    · rw [if_pos e]; omega
    · rw [if_neg e]; have := w1 p (by omega); omega
  · intro x p hx h
    show p < ps + 1 ∧ (if p = ps then tp else ow p) = x
    by_cases e : x = tp
    · rw [e, pk_us] at h
      have hp := (ho p).mp h
      rw [if_pos hp]; omega
    · rw [pk_un e] at h
      have := w2 x p (by omega) h
      rw [if_neg (by omega)]; omega
  · intro x p hx h
    show p < ps + 1 ∧ (if p = ps then tp else ow p) = x
    by_cases e : x = tp
    · rw [e, pk_us] at h
      have hp := (ho p).mp h
      rw [if_pos hp]; omega
    · rw [pk_un e] at h
      have := w3 x p (by omega) h
      rw [if_neg (by omega)]; omega
  · intro p q hp h
    show q < ps + 1 ∧ (if q = ps then tp else ow q) = (if p = ps then tp else ow p)
    unfold au_fo at h
    by_cases e : p = ps
    · rw [e, pk_us] at h; exact absurd h ab_zz
    · rw [pk_un e] at h
      have := w4 p q (by omega) h
      rw [if_neg (by omega), if_neg e]; omega
  · intro c p h
    rcases (ha c p).mp h with z | z
    · have := w5 c p z; omega
    · omega
  · intro t x s e hx
    rw [aa_stk_leaf h2, aa_dep_congr hK, hd, au_stk hK hM]
    by_cases ex : x = tp
    · rw [if_pos ex]
      have key : au_A (upd nu tp 0) (upd fi tp own) (upd la tp own) (upd fo ps 0) ac' t x s e ↔ aa_aut (au_ac ac') (au_fo (upd fo ps 0)) t False (fun p => p = ps) (fun p => p = ps) s e := by
        unfold au_A
        rw [ex, pk_us, pk_us, pk_us]
        exact aa_aut_iff ⟨fun z => z rfl, fun z => z.elim⟩ ho ho
      rw [key, aa_one (fun q z => by unfold au_fo at z; rw [pk_us] at z; exact ab_zz z)]
      constructor
      · intro h
        rcases h with h | h
        · exact absurd h.1 h0
        · exact ⟨h.2.1, (ha _ _).mpr (Or.inr ⟨rfl, h.2.2⟩)⟩
      · intro h
        refine Or.inr ⟨h0, h.1, ?_⟩
        rcases (ha _ _).mp h.2 with z | z
        · exact absurd (w5 _ _ z) (by omega)
        · exact z.2
    · rw [if_neg ex, hR t x s e (by omega)]
      refine au_old w (by omega) (pk_un ex) (pk_un ex) (pk_un ex) ?_ ?_
      · intro p q hp _
        unfold au_fo
        rw [pk_un (by omega)]
      · intro p c hp
        rw [ha c p]
        exact ⟨Or.inl, fun z => z.elim id (fun y => absurd y.1 (by omega))⟩
theorem au_eps (H : au_AU K M nc nu fi la fo ac ps tp) (hd : aa_dep K nc = tp) (hK : ∀ i, i < nc → K' i = K i) (hM : ∀ i, i < nc → M' i = M i)
    (h0 : K' nc = 0) : au_AU K' M' (nc + 1) (upd nu tp 1) (upd fi tp 0) (upd la tp 0) fo ac ps (tp + 1) := by
  obtain ⟨⟨ow, w⟩, hR⟩ := H
  have w1 := w.1
  have w2 := w.2.1
  have w3 := w.2.2.1
  have w4 := w.2.2.2.1
  have w5 := w.2.2.2.2
  refine ⟨⟨ow, ?_, ?_, ?_, w4, w5⟩, ?_⟩
  · intro p hp
    have := w1 p hp; omega
  · intro x p hx h
    by_cases e : x = tp
    · rw [e, pk_us] at h; exact absurd h ab_zz
    · rw [pk_un e] at h
      exact w2 x p (by omega) h
  · intro x p hx h
    by_cases e : x = tp
    · rw [e, pk_us] at h; exact absurd h ab_zz
    · rw [pk_un e] at h
      exact w3 x p (by omega) h
  · intro t x s e hx
    have h2 : ¬ 2 < K' nc := by rw [h0]; decide
    rw [aa_stk_leaf h2, aa_dep_congr hK, hd, au_stk hK hM]
    by_cases ex : x = tp
    · rw [if_pos ex]
      unfold au_A
      rw [ex, pk_us, pk_us, pk_us]
      constructor
      · intro h
        rcases h with h | h
        · exact Or.inl ⟨by decide, h.2⟩
        · exact absurd h0 h.1
      · intro h
        rcases h with h | h
        · exact Or.inl ⟨h0, h.2⟩
        · obtain ⟨n, p, q, _, hp, _⟩ := h
          exact absurd hp ab_zz
    · rw [if_neg ex, hR t x s e (by omega)]
      exact au_old w (by omega) (pk_un ex) (pk_un ex) (pk_un ex) (fun _ _ _ _ => Iff.rfl) (fun _ _ _ => Iff.rfl)
theorem au_ow2 (w : au_W fi la fo ac ps (tp + 2) ow) : ∀ p, p < ps → (if ow p = tp + 1 then tp else ow p) < tp + 1 := by
  intro p hp
  have := w.1 p hp
  by_cases e : ow p = tp + 1
  · rw [if_pos e]; omega
  · rw [if_neg e]; omega
theorem au_alt (H : au_AU K M nc nu fi la fo ac ps (tp + 2)) (hd : aa_dep K nc = tp + 2) (hK : ∀ i, i < nc → K' i = K i) (hM : ∀ i, i < nc → M' i = M i)
    (h4 : K' nc = 4) {v : Int32} (hv : ¬ v = 0 ↔ (¬ nu tp = 0 ∨ ¬ nu (tp + 1) = 0)) :
    au_AU K' M' (nc + 1) (upd nu tp v) (upd fi tp (fi tp ||| fi (tp + 1))) (upd la tp (la tp ||| la (tp + 1))) fo ac ps (tp + 1) := by
  obtain ⟨⟨ow, w⟩, hR⟩ := H
  have w2 := w.2.1
  have w3 := w.2.2.1
  have w4 := w.2.2.2.1
  have w5 := w.2.2.2.2
  refine ⟨⟨fun p => if ow p = tp + 1 then tp else ow p, au_ow2 w, ?_, ?_, ?_, w5⟩, ?_⟩
  · intro x p hx h
    show p < ps ∧ (if ow p = tp + 1 then tp else ow p) = x
    by_cases e : x = tp
    · rw [e, pk_us] at h
      rcases (ab_orI _ _ _).mp h with z | z
      · have := w2 tp p (by omega) z
        rw [if_neg (by omega)]; omega
      · have := w2 (tp + 1) p (by omega) z
        rw [if_pos this.2]; omega
    · rw [pk_un e] at h
      have := w2 x p (by omega) h
      rw [if_neg (by omega)]; omega
  · intro x p hx h
    show p < ps ∧ (if ow p = tp + 1 then tp else ow p) = x
    by_cases e : x = tp
    · rw [e, pk_us] at h
      rcases (ab_orI _ _ _).mp h with z | z
      · have := w3 tp p (by omega) z
        rw [if_neg (by omega)]; omega
      · have := w3 (tp + 1) p (by omega) z
        rw [if_pos this.2]; omega
    · rw [pk_un e] at h
      have := w3 x p (by omega) h
      rw [if_neg (by omega)]; omega
  · intro p q hp h
    have := w4 p q hp h
    show q < ps ∧ (if ow q = tp + 1 then tp else ow q) = (if ow p = tp + 1 then tp else ow p)
    rw [this.2]; exact ⟨this.1, rfl⟩
  · intro t x s e hx
    have h2 : 2 < K' nc := by rw [h4]; decide
    have h4' : ¬ 4 < K' nc := by rw [h4]; decide
    rw [aa_stk_bin h2 h4', aa_dep_congr hK, hd, au_stk hK hM]
    by_cases ex : x = tp
    · rw [if_pos (by omega), ex]
      have key : au_A (upd nu tp v) (upd fi tp (fi tp ||| fi (tp + 1))) (upd la tp (la tp ||| la (tp + 1))) fo ac t tp s e ↔ au_A nu fi la fo ac t tp s e ∨ au_A nu fi la fo ac t (tp + 1) s e := by
        unfold au_A
        rw [pk_us, pk_us, pk_us]
        exact Iff.trans (aa_aut_iff hv (fun p => ab_orI _ _ _) (fun p => ab_orI _ _ _))
          (aa_alt (au_cl w tp) (au_cl w (tp + 1)) (fun p h1 h2 => by omega) (fun p hp => w2 tp p (by omega) hp) (fun p hp => w2 (tp + 1) p (by omega) hp)
            (fun p hp => w3 tp p (by omega) hp) (fun p hp => w3 (tp + 1) p (by omega) hp))
      rw [key, ← hR t tp s e (by omega), ← hR t (tp + 1) s e (by omega)]
      constructor
      · intro h
        rcases h with h | h
        · exact h.2
        · exact absurd h4 h.1
      · intro h
        exact Or.inl ⟨h4, h⟩
    · rw [if_neg (by omega), hR t x s e (by omega)]
      exact au_old w (by omega) (pk_un ex) (pk_un ex) (pk_un ex) (fun _ _ _ _ => Iff.rfl) (fun _ _ _ => Iff.rfl)
theorem au_cat (H : au_AU K M nc nu fi la fo ac ps (tp + 2)) (hd : aa_dep K nc = tp + 2) (hK : ∀ i, i < nc → K' i = K i) (hM : ∀ i, i < nc → M' i = M i)
    (h4 : K' nc = 3) (hf : ∀ p q, au_fo fo' p q ↔ au_fo fo p q ∨ (au_in (la tp) p ∧ au_in (fi (tp + 1)) q)) {v vf vl : Int32}
    (hv : ¬ v = 0 ↔ (¬ nu tp = 0 ∧ ¬ nu (tp + 1) = 0)) (hvf : ∀ p, au_in vf p ↔ au_in (fi tp) p ∨ (¬ nu tp = 0 ∧ au_in (fi (tp + 1)) p))
    (hvl : ∀ p, au_in vl p ↔ au_in (la (tp + 1)) p ∨ (¬ nu (tp + 1) = 0 ∧ au_in (la tp) p)) :
    au_AU K' M' (nc + 1) (upd nu tp v) (upd fi tp vf) (upd la tp vl) fo' ac ps (tp + 1) := by
  obtain ⟨⟨ow, w⟩, hR⟩ := H
  have w2 := w.2.1
  have w3 := w.2.2.1
  have w4 := w.2.2.2.1
  have w5 := w.2.2.2.2
  refine ⟨⟨fun p => if ow p = tp + 1 then tp else ow p, au_ow2 w, ?_, ?_, ?_, w5⟩, ?_⟩
  · intro x p hx h
    show p < ps ∧ (if ow p = tp + 1 then tp else ow p) = x
    by_cases e : x = tp
    · rw [e, pk_us] at h
      rcases (hvf p).mp h with z | z
      · have := w2 tp p (by omega) z
        rw [if_neg (by omega)]; omega
      · have := w2 (tp + 1) p (by omega) z.2
        rw [if_pos this.2]; omega
    · rw [pk_un e] at h
      have := w2 x p (by omega) h
      rw [if_neg (by omega)]; omega
  · intro x p hx h
    show p < ps ∧ (if ow p = tp + 1 then tp else ow p) = x
    by_cases e : x = tp
    · rw [e, pk_us] at h
      rcases (hvl p).mp h with z | z
      · have := w3 (tp + 1) p (by omega) z
        rw [if_pos this.2]; omega
      · have := w3 tp p (by omega) z.2
        rw [if_neg (by omega)]; omega
    · rw [pk_un e] at h
      have := w3 x p (by omega) h
      rw [if_neg (by omega)]; omega
  · intro p q hp h
    show q < ps ∧ (if ow q = tp + 1 then tp else ow q) = (if ow p = tp + 1 then tp else ow p)
    rcases (hf p q).mp h with z | z
    · have := w4 p q hp z
      rw [this.2]; exact ⟨this.1, rfl⟩
    · have a := w3 tp p (by omega) z.1
      have b := w2 (tp + 1) q (by omega) z.2
      rw [if_pos b.2, if_neg (by omega)]; omega
  · intro t x s e hx
    have h2 : 2 < K' nc := by rw [h4]; decide
    have h4' : ¬ 4 < K' nc := by rw [h4]; decide
    have h4'' : ¬ K' nc = 4 := by rw [h4]; decide
    rw [aa_stk_bin h2 h4', aa_dep_congr hK, hd, au_stk hK hM]
    by_cases ex : x = tp
    · rw [if_pos (by omega), ex]
      have key : au_A (upd nu tp v) (upd fi tp vf) (upd la tp vl) fo' ac t tp s e ↔ ∃ m, au_A nu fi la fo ac t tp s m ∧ au_A nu fi la fo ac t (tp + 1) m e := by
        unfold au_A
        rw [pk_us, pk_us, pk_us]
        exact Iff.trans (aa_aut_iff hv hvf hvl)
          (aa_cat (au_cl w tp) (au_cl w (tp + 1)) (fun p h1 h2 => by omega) (fun p hp => w2 tp p (by omega) hp) (fun p hp => w2 (tp + 1) p (by omega) hp)
            (fun p hp => w3 tp p (by omega) hp) (fun p hp => w3 (tp + 1) p (by omega) hp) hf)
      rw [key]
      constructor
      · intro h
        rcases h with h | h
        · exact absurd h.1 h4''
        · obtain ⟨_, m, a, b⟩ := h
          exact ⟨m, (hR t tp s m (by omega)).mp a, (hR t (tp + 1) m e (by omega)).mp b⟩
      · intro h
        obtain ⟨m, a, b⟩ := h
        exact Or.inr ⟨h4'', m, (hR t tp s m (by omega)).mpr a, (hR t (tp + 1) m e (by omega)).mpr b⟩
    · rw [if_neg (by omega), hR t x s e (by omega)]
      refine au_old w (by omega) (pk_un ex) (pk_un ex) (pk_un ex) ?_ (fun _ _ _ => Iff.rfl)
      intro p q hp ho
      rw [hf p q]
      exact ⟨Or.inl, fun z => z.elim id (fun y => by have := w3 tp p (by omega) y.1; omega)⟩
theorem au_un (H : au_AU K M nc nu fi la fo ac ps (tp + 1)) (hd : aa_dep K nc = tp + 1) (hK : ∀ i, i < nc → K' i = K i) (hM : ∀ i, i < nc → M' i = M i)
    (h4 : 4 < K' nc) (hf : ∀ p q, au_fo fo' p q ↔ au_fo fo p q ∨ (¬ K' nc = 7 ∧ au_in (la tp) p ∧ au_in (fi tp) q))
    (hn : ∀ x, ¬ x = tp → nu' x = nu x) (hv : ¬ nu' tp = 0 ↔ (¬ nu tp = 0 ∨ ¬ K' nc = 6)) :
    au_AU K' M' (nc + 1) nu' fi la fo' ac ps (tp + 1) := by
  obtain ⟨⟨ow, w⟩, hR⟩ := H
  have w2 := w.2.1
  have w3 := w.2.2.1
  have w4 := w.2.2.2.1
  have w5 := w.2.2.2.2
  refine ⟨⟨ow, w.1, w2, w3, ?_, w5⟩, ?_⟩
  · intro p q hp h
    rcases (hf p q).mp h with z | z
    · exact w4 p q hp z
    · have a := w3 tp p (by omega) z.2.1
      have b := w2 tp q (by omega) z.2.2
      omega
  · intro t x s e hx
    have h2 : 2 < K' nc := Int32.lt_trans (by decide) h4
    rw [aa_stk_un h2 h4, aa_dep_congr hK, hd, au_stk hK hM]
    by_cases ex : x = tp
    · rw [if_pos (by omega), ex]
      have eA : aa_stk t K M nc tp = au_A nu fi la fo ac t tp := by
        funext s e
        exact propext (hR t tp s e (by omega))
      rw [eA]
      have e1 : ∀ s e, (K' nc = 7 ∧ au_A nu fi la fo ac t tp s e) ∨ (¬ K' nc = 7 ∧ aa_pl (au_A nu fi la fo ac t tp) s e) ↔ aa_aut (au_ac ac) (au_fo fo') t (¬ nu tp = 0) (au_in (fi tp)) (au_in (la tp)) s e := by
        intro s e
        by_cases h7 : K' nc = 7
        · have ef : au_fo fo' = au_fo fo := by
            funext p q
            exact propext ⟨fun z => ((hf p q).mp z).elim id (fun y => absurd h7 y.1), fun z => (hf p q).mpr (Or.inl z)⟩
          rw [ef]
          exact ⟨fun z => z.elim (fun y => y.2) (fun y => absurd h7 y.1), fun z => Or.inl ⟨h7, z⟩⟩
        · have ef : ∀ p q, au_fo fo' p q ↔ au_fo fo p q ∨ (au_in (la tp) p ∧ au_in (fi tp) q) := by
            intro p q
            rw [hf p q]
            exact ⟨fun z => z.elim Or.inl (fun y => Or.inr y.2), fun z => z.elim Or.inl (fun y => Or.inr ⟨h7, y⟩)⟩
          rw [aa_plus ef]
          exact ⟨fun z => z.elim (fun y => absurd y.1 h7) (fun y => y.2), fun z => Or.inr ⟨h7, z⟩⟩
      have e2 : aa_un (K' nc) (au_A nu fi la fo ac t tp) s e ↔ aa_aut (au_ac ac) (au_fo fo') t (¬ nu tp = 0) (au_in (fi tp)) (au_in (la tp)) s e ∨ (¬ K' nc = 6 ∧ e = s) := by
        rw [← e1]
        unfold aa_un
        exact or_assoc.symm
      rw [e2]
      unfold au_A
      by_cases h6 : K' nc = 6
      · have hv' : ¬ nu' tp = 0 ↔ ¬ nu tp = 0 := by
          rw [hv]
          exact ⟨fun z => z.elim id (fun y => absurd h6 y), Or.inl⟩
        rw [propext hv']
        exact ⟨fun z => z.elim id (fun y => absurd h6 y.1), Or.inl⟩
      · have hv' : ¬ nu' tp = 0 ↔ True := ⟨fun _ => trivial, fun _ => hv.mpr (Or.inr h6)⟩
        rw [propext hv', aa_opt (nu := ¬ nu tp = 0)]
        exact ⟨fun z => z.elim Or.inl (fun y => Or.inr y.2), fun z => z.elim Or.inl (fun y => Or.inr ⟨h6, y⟩)⟩
    · rw [if_neg (by omega), hR t x s e (by omega)]
      refine au_old w (by omega) (hn x ex) rfl rfl ?_ (fun _ _ _ => Iff.rfl)
      intro p q hp ho
      rw [hf p q]
      exact ⟨Or.inl, fun z => z.elim id (fun y => by have := w3 tp p (by omega) y.2.1; omega)⟩
theorem au_0 (ha : ∀ c p, ¬ au_ac ac p c) : au_AU K M 0 nu fi la fo ac 0 0 :=
  ⟨⟨fun _ => 0, fun _ h => absurd h (by omega), fun _ _ h => absurd h (by omega), fun _ _ h => absurd h (by omega), fun _ _ h => absurd h (by omega), fun c p h => absurd h (ha c p)⟩,
   fun _ _ _ _ h => absurd h (by omega)⟩
end
end
section
/-! ===== counts of trigrams ===== -/
def ag_cg (S : Nat → Bool) (f : Nat → Nat) (g : Nat) : Nat → Nat
  | 0 => 0
  | n + 1 => ag_cg S f g n + (if S n = true ∧ f n = g then 1 else 0)
def ag_ins (S : Nat → Bool) (p : Nat) : Nat → Bool := fun j => if j = p then true else S j
def ag_del (S : Nat → Bool) (p : Nat) : Nat → Bool := fun j => if j = p then false else S j
def ag_up (C : Nat → Nat → Bool) (d : Nat) (S : Nat → Bool) : Nat → Nat → Bool := fun d' => if d' = d then S else C d'
section
variable {S S' : Nat → Bool} {f f' : Nat → Nat} {g p : Nat}
theorem ag_cg_congr : ∀ {n : Nat}, (∀ j, j < n → S j = S' j) → (∀ j, j < n → S j = true → f j = f' j) → ag_cg S f g n = ag_cg S' f' g n
  | 0, _, _ => rfl
  | n + 1, h1, h2 => by
    have ih := ag_cg_congr (n := n) (fun j hj => h1 j (by omega)) (fun j hj => h2 j (by omega))
    show ag_cg S f g n + (if S n = true ∧ f n = g then 1 else 0) = ag_cg S' f' g n + (if S' n = true ∧ f' n = g then 1 else 0)
    rw [ih, ← h1 n (by omega)]
    cases hS : S n
    · rw [if_neg (fun z => absurd z.1 (by decide)), if_neg (fun z => absurd z.1 (by decide))]
    · rw [h2 n (by omega) hS]
theorem ag_cg_ins (hp : S p = false) : ∀ {n : Nat}, p < n → ag_cg (ag_ins S p) f g n = ag_cg S f g n + (if f p = g then 1 else 0)
  | 0, h => absurd h (by omega)
  | n + 1, h => by
    show ag_cg (ag_ins S p) f g n + (if ag_ins S p n = true ∧ f n = g then 1 else 0) = ag_cg S f g n + (if S n = true ∧ f n = g then 1 else 0) + (if f p = g then 1 else 0)
    by_cases e : n = p
    · subst e
      have e1 : ag_cg (ag_ins S n) f g n = ag_cg S f g n := ag_cg_congr (fun j hj => if_neg (by omega)) (fun _ _ _ => rfl)
      have e2 : ag_ins S n n = true := if_pos rfl
      rw [e1, e2, hp, if_neg (fun z : false = true ∧ f n = g => absurd z.1 (by decide)), Nat.add_zero]
      by_cases eg : f n = g
      · rw [if_pos ⟨rfl, eg⟩, if_pos eg]
      · rw [if_neg (fun z => eg z.2), if_neg eg]
    · have e2 : ag_ins S p n = S n := if_neg e
      rw [e2, ag_cg_ins hp (by omega)]
      omega
theorem ag_cg_del (hp : S p = true) {n : Nat} (h : p < n) : ag_cg S f g n = ag_cg (ag_del S p) f g n + (if f p = g then 1 else 0) := by
  rw [← ag_cg_ins (S := ag_del S p) (if_pos rfl) h]
  refine ag_cg_congr (fun j _ => ?_) (fun _ _ _ => rfl)
  show S j = if j = p then true else (if j = p then false else S j)
  by_cases e : j = p
  · rw [if_pos e, e, hp]
  · rw [if_neg e, if_neg e]
theorem ag_cg_le : ∀ n : Nat, ag_cg S f g n ≤ n
  | 0 => Nat.le_refl _
  | n + 1 => by
    have ih := ag_cg_le n
    show ag_cg S f g n + (if S n = true ∧ f n = g then 1 else 0) ≤ n + 1
    by_cases e : S n = true ∧ f n = g
    · rw [if_pos e]; omega
    · rw [if_neg e]; omega
theorem ag_cg_pos : ∀ {n : Nat}, 0 < ag_cg S f g n ↔ ∃ j, j < n ∧ S j = true ∧ f j = g
  | 0 => ⟨fun h => absurd h (Nat.lt_irrefl 0), fun h => by obtain ⟨j, hj, _⟩ := h; omega⟩
  | n + 1 => by
    have ih := ag_cg_pos (n := n)
    show 0 < ag_cg S f g n + (if S n = true ∧ f n = g then 1 else 0) ↔ _
    by_cases e : S n = true ∧ f n = g
    · rw [if_pos e]
      exact ⟨fun _ => ⟨n, by omega, e⟩, fun _ => by omega⟩
    · rw [if_neg e, Nat.add_zero, ih]
      constructor
      · intro h
        obtain ⟨j, hj, h⟩ := h
        exact ⟨j, by omega, h⟩
      · intro h
        obtain ⟨j, hj, h⟩ := h
        refine ⟨j, ?_, h⟩
        have hne : j ≠ n := fun z => e (z ▸ h)
        omega
end
/-- counts and postings of the positions C under the trigrams f -/
def ag_IG (D : Nat) (gc po : Nat → Int32) (C : Nat → Nat → Bool) (f : Nat → Nat → Nat) : Prop :=
  (∀ d g, d < 8 → g < 216 → gc (g * 8 + d) = nI (ag_cg (C d) (f d) g 12)) ∧
  (∀ d g, d < 8 → g < 216 → (bt (po g) d = true ↔ 0 < ag_cg (C d) (f d) g 12)) ∧
  (∀ g i, g < 216 → bt (po g) i = true → i < D)
section
variable {D : Nat} {gc po : Nat → Int32} {C C' : Nat → Nat → Bool} {f f' : Nat → Nat → Nat}
theorem ag_IG_congr (h : ag_IG D gc po C f) (h1 : ∀ d j, d < 8 → j < 12 → C d j = C' d j) (h2 : ∀ d j, d < 8 → j < 12 → C d j = true → f d j = f' d j) : ag_IG D gc po C' f' := by
  have e : ∀ d g, d < 8 → ag_cg (C d) (f d) g 12 = ag_cg (C' d) (f' d) g 12 := fun d g hd => ag_cg_congr (fun j hj => h1 d j hd hj) (fun j hj => h2 d j hd hj)
  exact ⟨fun d g hd hg => by rw [← e d g hd]; exact h.1 d g hd hg, fun d g hd hg => by rw [← e d g hd]; exact h.2.1 d g hd hg, h.2.2⟩
theorem ag_IG_up (h : ag_IG D gc po C f) {d G m : Nat} {S : Nat → Bool} {w z : Int32} (hD : D ≤ 8) (hd : d < D) (hG : G < 216)
    (hc : ∀ g, ¬ g = G → ag_cg S (f d) g 12 = ag_cg (C d) (f d) g 12) (hm : ag_cg S (f d) G 12 = m) (hz : z = nI m)
    (hw : ∀ i, ¬ i = d → (bt w i = true ↔ bt (po G) i = true)) (hwd : bt w d = true ↔ 0 < m) :
    ag_IG D (upd gc (G * 8 + d) z) (upd po G w) (ag_up C d S) f := by
  refine ⟨?_, ?_, ?_⟩
  · intro d' g hd' hg
    by_cases e : d' = d
    · subst e
      have e1 : ag_up C d' S d' = S := if_pos rfl
      rw [e1]
      by_cases eg : g = G
      · rw [eg, pk_us, hm, hz]
      · rw [pk_un (by omega), hc g eg]
        exact h.1 d' g hd' hg
    · have e1 : ag_up C d S d' = C d' := if_neg e
      rw [e1, pk_un (by omega)]
      exact h.1 d' g hd' hg
  · intro d' g hd' hg
    by_cases e : d' = d
    · subst e
      have e1 : ag_up C d' S d' = S := if_pos rfl
      rw [e1]
      by_cases eg : g = G
      · rw [eg, pk_us, hm]; exact hwd
      · rw [pk_un eg, hc g eg]
        exact h.2.1 d' g hd' hg
    · have e1 : ag_up C d S d' = C d' := if_neg e
      rw [e1]
      by_cases eg : g = G
      · rw [eg, pk_us, hw d' e]; exact h.2.1 d' G hd' hG
      · rw [pk_un eg]
        exact h.2.1 d' g hd' hg
  · intro g i hg hi
    by_cases eg : g = G
    · rw [eg, pk_us] at hi
      by_cases e : i = d
      · omega
      · exact h.2.2 G i hG ((hw i e).mp hi)
    · rw [pk_un eg] at hi
      exact h.2.2 g i hg hi
theorem ag_m1 {m : Nat} (h : 0 < m) : nI m + (-1) = nI (m - 1) := by
  obtain ⟨k, rfl⟩ : ∃ k, m = k + 1 := ⟨m - 1, by omega⟩
  exact pk_m1 k
theorem ag_IG_ins (h : ag_IG D gc po C f) {d p G : Nat} (hD : D ≤ 8) (hd : d < D) (hp : p < 12) (hC : C d p = false) (hf : f d p = G) (hG : G < 216) :
    ¬ gc (G * 8 + d) + 1 ≤ 0 ∧ ag_IG D (upd gc (G * 8 + d) (gc (G * 8 + d) + 1)) (upd po G (po G ||| ((1 : Int32) <<< (nI d &&& 31)))) (ag_up C d (ag_ins (C d) p)) f := by
  have e0 := h.1 d G (by omega) hG
  have hle := ag_cg_le (S := C d) (f := f d) (g := G) 12
  constructor
  · rw [e0, nI_1]
    exact nI_nle (by omega) (by omega)
  · refine ag_IG_up h hD hd hG ?_ rfl ?_ ?_ ?_
    · intro g hg
      rw [ag_cg_ins hC hp, hf, if_neg (fun z => hg z.symm), Nat.add_zero]
    · rw [ag_cg_ins hC hp, hf, if_pos rfl, e0, nI_1]
    · intro i hi
      rw [ab_set (by omega)]
      exact ⟨fun z => z.elim id (fun y => absurd y hi), Or.inl⟩
    · rw [ab_set (by omega), ag_cg_ins hC hp, hf, if_pos rfl]
      exact ⟨fun _ => by omega, fun _ => Or.inr rfl⟩
theorem ag_IG_del (h : ag_IG D gc po C f) {d p G : Nat} (hD : D ≤ 8) (hd : d < D) (hp : p < 12) (hC : C d p = true) (hf : f d p = G) (hG : G < 216) :
    (gc (G * 8 + d) + (-1) ≤ 0 → ag_IG D (upd gc (G * 8 + d) (gc (G * 8 + d) + (-1))) (upd po G (po G &&& (((1 : Int32) <<< (nI d &&& 31)) ^^^ (-1)))) (ag_up C d (ag_del (C d) p)) f) ∧
    (¬ gc (G * 8 + d) + (-1) ≤ 0 → ag_IG D (upd gc (G * 8 + d) (gc (G * 8 + d) + (-1))) (upd po G (po G ||| ((1 : Int32) <<< (nI d &&& 31)))) (ag_up C d (ag_del (C d) p)) f) := by
  have e0 := h.1 d G (by omega) hG
  have hle := ag_cg_le (S := C d) (f := f d) (g := G) 12
  have ed := ag_cg_del (S := C d) (f := f d) (g := G) hC hp
  rw [hf, if_pos rfl] at ed
  have hg : ∀ g, ¬ g = G → ag_cg (ag_del (C d) p) (f d) g 12 = ag_cg (C d) (f d) g 12 := by
    intro g hg
    rw [ag_cg_del (S := C d) (f := f d) (g := g) hC hp, hf, if_neg (fun z => hg z.symm), Nat.add_zero]
  have ez : gc (G * 8 + d) + (-1) = nI (ag_cg (ag_del (C d) p) (f d) G 12) := by
    rw [e0, ag_m1 (by omega), ed, Nat.add_sub_cancel]
  constructor
  · intro hz
    refine ag_IG_up h hD hd hG hg rfl ez ?_ ?_
    · intro i hi
      rw [ab_clr (by omega)]
      exact ⟨fun z => z.1, fun z => ⟨z, hi⟩⟩
    · rw [ab_clr (by omega)]
      refine ⟨fun z => absurd rfl z.2, fun z => ?_⟩
      rw [ez] at hz
      exact absurd hz (nI_nle z (by omega))
  · intro hz
    refine ag_IG_up h hD hd hG hg rfl ez ?_ ?_
    · intro i hi
      rw [ab_set (by omega)]
      exact ⟨fun z => z.elim id (fun y => absurd y hi), Or.inl⟩
    · rw [ab_set (by omega)]
      refine ⟨fun _ => ?_, fun _ => Or.inr rfl⟩
      rcases Nat.eq_zero_or_pos (ag_cg (ag_del (C d) p) (f d) G 12) with z | z
      · rw [ez, z] at hz
        exact absurd (by decide) hz
      · exact z
end
/-! ===== codes of words ===== -/
def ad_cd (t : Nat → Nat) (s : Nat) : Nat → Nat
  | 0 => 0
  | n + 1 => ad_cd t s n * 6 + t (s + n) + 1
def ad_wl (b : Nat) : Nat := if b < 1 then 0 else if b < 7 then 1 else if b < 43 then 2 else if b < 259 then 3 else if b < 1555 then 4 else if b < 9331 then 5 else 6
def ad_jn (a b : Nat) : Nat := a * 6 ^ ad_wl b + b
def ad_tri (t : Nat → Nat) (p : Nat) : Nat := t p * 36 + t (p + 1) * 6 + t (p + 2)
section
variable {t : Nat → Nat}
theorem ad_tri_lt (ht : ∀ p, t p < 6) (p : Nat) : ad_tri t p < 216 := by
  have h0 := ht p
  have h1 := ht (p + 1)
  have h2 := ht (p + 2)
  unfold ad_tri
  omega
theorem ad_lo (s : Nat) : ∀ n, 6 ^ n ≤ 5 * ad_cd t s n + 1
  | 0 => Nat.le_refl _
  | n + 1 => by
    have ih := ad_lo s n
    show 6 ^ (n + 1) ≤ 5 * (ad_cd t s n * 6 + t (s + n) + 1) + 1
    rw [Nat.pow_succ]
    omega
theorem ad_hi (ht : ∀ p, t p < 6) (s : Nat) : ∀ n, 5 * ad_cd t s n + 6 ≤ 6 ^ (n + 1)
  | 0 => Nat.le_refl _
  | n + 1 => by
    have ih := ad_hi ht s n
    have h := ht (s + n)
    show 5 * (ad_cd t s n * 6 + t (s + n) + 1) + 6 ≤ 6 ^ (n + 1 + 1)
    rw [Nat.pow_succ]
    omega
theorem ad_app (s m : Nat) : ∀ n, ad_cd t s (m + n) = ad_cd t s m * 6 ^ n + ad_cd t (s + m) n
  | 0 => by
    show ad_cd t s m = ad_cd t s m * 1 + 0
    omega
  | n + 1 => by
    have ih := ad_app s m n
    show ad_cd t s (m + n) * 6 + t (s + (m + n)) + 1 = ad_cd t s m * 6 ^ (n + 1) + (ad_cd t (s + m) n * 6 + t (s + m + n) + 1)
    rw [ih, Nat.pow_succ, ← Nat.add_assoc s m n, Nat.add_mul, Nat.mul_assoc]
    omega
theorem ad_b0 (s : Nat) : ad_cd t s 0 = 0 := rfl
theorem ad_b1 (ht : ∀ p, t p < 6) (s : Nat) : 1 ≤ ad_cd t s 1 ∧ ad_cd t s 1 < 7 := by
  have a := ad_lo (t := t) s 1
  have b := ad_hi ht s 1
  rw [show (6 : Nat) ^ 1 = 6 from rfl] at a
  rw [show (6 : Nat) ^ (1 + 1) = 36 from rfl] at b
  omega
theorem ad_b2 (ht : ∀ p, t p < 6) (s : Nat) : 7 ≤ ad_cd t s 2 ∧ ad_cd t s 2 < 43 := by
  have a := ad_lo (t := t) s 2
  have b := ad_hi ht s 2
  rw [show (6 : Nat) ^ 2 = 36 from rfl] at a
  rw [show (6 : Nat) ^ (2 + 1) = 216 from rfl] at b
  omega
theorem ad_b3 (ht : ∀ p, t p < 6) (s : Nat) : 43 ≤ ad_cd t s 3 ∧ ad_cd t s 3 < 259 := by
  have a := ad_lo (t := t) s 3
  have b := ad_hi ht s 3
  rw [show (6 : Nat) ^ 3 = 216 from rfl] at a
  rw [show (6 : Nat) ^ (3 + 1) = 1296 from rfl] at b
  omega
theorem ad_b4 (ht : ∀ p, t p < 6) (s : Nat) : 259 ≤ ad_cd t s 4 ∧ ad_cd t s 4 < 1555 := by
  have a := ad_lo (t := t) s 4
  have b := ad_hi ht s 4
  rw [show (6 : Nat) ^ 4 = 1296 from rfl] at a
  rw [show (6 : Nat) ^ (4 + 1) = 7776 from rfl] at b
  omega
theorem ad_b5 (ht : ∀ p, t p < 6) (s : Nat) : 1555 ≤ ad_cd t s 5 ∧ ad_cd t s 5 < 9331 := by
  have a := ad_lo (t := t) s 5
  have b := ad_hi ht s 5
  rw [show (6 : Nat) ^ 5 = 7776 from rfl] at a
  rw [show (6 : Nat) ^ (5 + 1) = 46656 from rfl] at b
  omega
theorem ad_le2 (ht : ∀ p, t p < 6) (s : Nat) {n : Nat} (h : n ≤ 2) : ad_cd t s n < 43 := by
  have h0 := ad_b0 (t := t) s
  have h1 := ad_b1 ht s
  have h2 := ad_b2 ht s
  rcases (by omega : n = 0 ∨ n = 1 ∨ n = 2) with z | z | z <;> subst z <;> omega
theorem ad_ge3 (s : Nat) {n : Nat} (h : 3 ≤ n) : 43 ≤ ad_cd t s n := by
  have a := ad_lo (t := t) s n
  have b : 6 ^ 3 ≤ 6 ^ n := Nat.pow_le_pow_right (by omega) h
  rw [show (6 : Nat) ^ 3 = 216 from rfl] at b
  omega
theorem ad_ge6 (s : Nat) {n : Nat} (h : 6 ≤ n) : 9331 ≤ ad_cd t s n := by
  have a := ad_lo (t := t) s n
  have b : 6 ^ 6 ≤ 6 ^ n := Nat.pow_le_pow_right (by omega) h
  rw [show (6 : Nat) ^ 6 = 46656 from rfl] at b
  omega
theorem ad_le5 (ht : ∀ p, t p < 6) (s : Nat) {n : Nat} (h : n ≤ 5) : ad_cd t s n < 9331 := by
  have h0 := ad_b0 (t := t) s
  have h1 := ad_b1 ht s
  have h2 := ad_b2 ht s
  have h3 := ad_b3 ht s
  have h4 := ad_b4 ht s
  have h5 := ad_b5 ht s
  rcases (by omega : n = 0 ∨ n = 1 ∨ n = 2 ∨ n = 3 ∨ n = 4 ∨ n = 5) with z | z | z | z | z | z <;> subst z <;> omega
theorem ad_le10 (ht : ∀ p, t p < 6) (s : Nat) {n : Nat} (h : n ≤ 10) : ad_cd t s n < 2 ^ 31 := by
  have a := ad_hi ht s n
  have b : 6 ^ (n + 1) ≤ 6 ^ 11 := Nat.pow_le_pow_right (by omega) (by omega)
  rw [show (6 : Nat) ^ 11 = 362797056 from rfl] at b
  omega
theorem ad_wl_cd (ht : ∀ p, t p < 6) (s : Nat) {n : Nat} (h : n ≤ 5) : ad_wl (ad_cd t s n) = n := by
  have h0 := ad_b0 (t := t) s
  have h1 := ad_b1 ht s
  have h2 := ad_b2 ht s
  have h3 := ad_b3 ht s
  have h4 := ad_b4 ht s
  have h5 := ad_b5 ht s
  rcases (by omega : n = 0 ∨ n = 1 ∨ n = 2 ∨ n = 3 ∨ n = 4 ∨ n = 5) with z | z | z | z | z | z <;> subst z <;> unfold ad_wl <;> (repeat' split) <;> omega
theorem ad_jn_cd (ht : ∀ p, t p < 6) (s m : Nat) {n : Nat} (h : n ≤ 5) : ad_jn (ad_cd t s m) (ad_cd t (s + m) n) = ad_cd t s (m + n) := by
  unfold ad_jn
  rw [ad_wl_cd ht (s + m) h, ad_app]
theorem ad_par (ht : ∀ p, t p < 6) (s n : Nat) : (ad_cd t s (n + 1) - 1) / 6 = ad_cd t s n := by
  have h := ht (s + n)
  show (ad_cd t s n * 6 + t (s + n) + 1 - 1) / 6 = ad_cd t s n
  omega
theorem ad_tri_cd (ht : ∀ p, t p < 6) (s n : Nat) : (ad_cd t s (n + 3) - 43) % 216 = ad_tri t (s + n) := by
  have h0 := ht (s + n)
  have h1 := ht (s + n + 1)
  have h2 := ht (s + n + 2)
  show (((ad_cd t s n * 6 + t (s + n) + 1) * 6 + t (s + n + 1) + 1) * 6 + t (s + n + 2) + 1 - 43) % 216 = t (s + n) * 36 + t (s + n + 1) * 6 + t (s + n + 2)
  omega
theorem ad_tl3 (ht : ∀ p, t p < 6) (s : Nat) : (ad_cd t s 3 - 7) % 36 + 7 = ad_cd t (s + 1) 2 := by
  have h0 := ht s
  have h1 := ht (s + 1)
  have h2 := ht (s + 2)
  show (((0 * 6 + t s + 1) * 6 + t (s + 1) + 1) * 6 + t (s + 2) + 1 - 7) % 36 + 7 = (0 * 6 + t (s + 1) + 1) * 6 + t (s + 2) + 1
  omega
end
end
section
/-! ===== small arithmetic of ints ===== -/
theorem ax_m12 (a : Nat) : nI a * 12 = nI (a * 12) := pk_mul a 12
theorem ax_m13 (a : Nat) : nI a * 13 = nI (a * 13) := pk_mul a 13
theorem ax_m36 (a : Nat) : nI a * 36 = nI (a * 36) := pk_mul a 36
theorem ax_m6 (a : Nat) : nI a * 6 = nI (a * 6) := pk_mul a 6
theorem ax_m8 (a : Nat) : nI a * 8 = nI (a * 8) := pk_mul a 8
theorem ax_a2 (a : Nat) : nI a + 2 = nI (a + 2) := nI_add a 2
theorem ax_a13 (a : Nat) : nI a + 13 = nI (a + 13) := nI_add a 13
theorem ax_64 (a : Nat) : 64 + nI a = nI (64 + a) := nI_add 64 a
def iz (z : Int) : Int32 := Int32.ofInt z
theorem iz_n (n : Nat) : iz (n : Int) = nI n := Int32.ofInt_eq_ofNat
theorem iz_t {z : Int} (h : -1000 ≤ z) (h' : z ≤ 1000) : (iz z).toInt = z := Int32.toInt_ofInt_of_le (by omega) (by omega)
theorem iz_1 (z : Int) : iz z + 1 = iz (z + 1) := (Int32.ofInt_add z 1).symm
theorem iz_2 (z : Int) : iz z + 2 = iz (z + 2) := (Int32.ofInt_add z 2).symm
theorem iz_sub (n : Nat) (m : Nat) : nI n - nI m = iz ((n : Int) - (m : Int)) := by
  unfold iz
  rw [Int32.ofInt_sub, Int32.ofInt_eq_ofNat, Int32.ofInt_eq_ofNat]
  rfl
theorem iz_lt {a b : Int} (h1 : -1000 ≤ a) (h2 : a ≤ 1000) (h3 : -1000 ≤ b) (h4 : b ≤ 1000) : iz a < iz b ↔ a < b := by
  rw [Int32.lt_iff_toInt_lt, iz_t h1 h2, iz_t h3 h4]
theorem iz_0 : (0 : Int32) = iz 0 := rfl
/-! ===== X: documents and postings ===== -/
section
variable {Xdc Xml Xmn Xal Xpr Xnc Xps Xtp Xsr Xhi : Int32} {Xwd Xln Xgc Xpo Xkd Xmk Xnu Xfi Xla Xfo Xac Xmd Xec Xew Xh1 Xh2 : Nat → Int32} {Xhd Xtl : Nat → Int64}
theorem xw_isDoc {post : Int32 → Prop} {D : Nat} (hD : D ≤ 8) (p : Int32) (h0 : (¬ ∃ d, d < D ∧ p = nI d) → post 0) (h1 : ∀ d, d < D → p = nI d → post 1) : wpX_isDoc post (nI D, Xml, Xmn, Xal, Xpr, Xnc, Xps, Xtp, Xsr, Xhi, Xwd, Xln, Xgc, Xpo, Xkd, Xmk, Xnu, Xfi, Xla, Xfo, Xac, Xhd, Xtl, Xmd, Xec, Xew, Xh1, Xh2) p := by
  unfold wpX_isDoc
  rcases pk_ix p (n := D) (by omega) with h | h | h
  · refine br_t h (h0 ?_)
    intro z
    obtain ⟨d, hd, e⟩ := z
    rw [e] at h
    exact nI_pos (by omega) h
  · refine br_c (fun _ => h0 ?_) (fun _ => br_t h (h0 ?_))
    all_goals
      intro z
      obtain ⟨d, hd, e⟩ := z
      rw [e] at h
      exact nI_ge hd (by omega) h
  · obtain ⟨d, hd, e⟩ := h
    have := h1 d hd e
    rw [e]
    exact br_f (nI_pos (by omega)) (br_f (nI_ge hd (by omega)) this)
theorem xw_isLetter {post : Int32 → Prop} {D : Nat} (hD : D ≤ 8) (p : Int32) (h0 : (¬ ∃ d, d < D ∧ p = nI d) → post 0) (h1 : ∀ d, d < D → p = nI d → post 1) : wpX_isLetter post (Xdc, Xml, Xmn, nI D, Xpr, Xnc, Xps, Xtp, Xsr, Xhi, Xwd, Xln, Xgc, Xpo, Xkd, Xmk, Xnu, Xfi, Xla, Xfo, Xac, Xhd, Xtl, Xmd, Xec, Xew, Xh1, Xh2) p := by
  unfold wpX_isLetter
  rcases pk_ix p (n := D) (by omega) with h | h | h
  · refine br_t h (h0 ?_)
    intro z
    obtain ⟨d, hd, e⟩ := z
    rw [e] at h
    exact nI_pos (by omega) h
  · refine br_c (fun _ => h0 ?_) (fun _ => br_t h (h0 ?_))
    all_goals
      intro z
      obtain ⟨d, hd, e⟩ := z
      rw [e] at h
      exact nI_ge hd (by omega) h
  · obtain ⟨d, hd, e⟩ := h
    have := h1 d hd e
    rw [e]
    exact br_f (nI_pos (by omega)) (br_f (nI_ge hd (by omega)) this)
theorem xw_isPresent {post : Int32 → Prop} {d : Nat} (hd : d < 8) (h0 : bt Xpr d = false → post 0) (h1 : bt Xpr d = true → post 1) : wpX_isPresent post (Xdc, Xml, Xmn, Xal, Xpr, Xnc, Xps, Xtp, Xsr, Xhi, Xwd, Xln, Xgc, Xpo, Xkd, Xmk, Xnu, Xfi, Xla, Xfo, Xac, Xhd, Xtl, Xmd, Xec, Xew, Xh1, Xh2) (nI d) := by
  unfold wpX_isPresent
  exact br_c (fun h => h0 ((ab_t0 _ (by omega)).mp h)) (fun h => h1 ((ab_n0 _ (by omega)).mp h))
theorem xw_cg0 {post : SX → Prop} {d L : Nat} {z : Int} {δ : Int32} (hd : d < 8) (hL : L ≤ 12) (hz : -100 ≤ z) (hz' : z ≤ 100) (el : Xln d = nI L) (h : z < 0 ∨ (L : Int) ≤ z + 2) (k : post (Xdc, Xml, Xmn, Xal, Xpr, Xnc, Xps, Xtp, Xsr, Xhi, Xwd, Xln, Xgc, Xpo, Xkd, Xmk, Xnu, Xfi, Xla, Xfo, Xac, Xhd, Xtl, Xmd, Xec, Xew, Xh1, Xh2)) : wpX_countGram post (Xdc, Xml, Xmn, Xal, Xpr, Xnc, Xps, Xtp, Xsr, Xhi, Xwd, Xln, Xgc, Xpo, Xkd, Xmk, Xnu, Xfi, Xla, Xfo, Xac, Xhd, Xtl, Xmd, Xec, Xew, Xh1, Xh2) (nI d) (iz z) δ := by
  unfold wpX_countGram
  by_cases h0 : z < 0
  · refine br_t ?_ k
    rw [iz_0, iz_lt (by omega) (by omega) (by omega) (by omega)]; exact h0
  · refine br_f ?_ ⟨vp_in_nI hd (by omega), br_f ?_ k⟩
    · rw [iz_0, iz_lt (by omega) (by omega) (by omega) (by omega)]; exact h0
    · rw [nI_clamp (by omega), el, iz_2, ← iz_n, iz_lt (by omega) (by omega) (by omega) (by omega)]
      omega
theorem xw_cg1 {post : SX → Prop} {d p L a b c G : Nat} {δ : Int32} (hd : d < 8) (hp : p + 2 < L) (hL : L ≤ 12) (el : Xln d = nI L)
    (ea : Xwd (d * 12 + p) = nI a) (eb : Xwd (d * 12 + p + 1) = nI b) (ec : Xwd (d * 12 + p + 2) = nI c) (ha : a < 6) (hb : b < 6) (hc : c < 6) (hG : a * 36 + b * 6 + c = G)
    (k1 : Xgc (G * 8 + d) + δ ≤ 0 → post (Xdc, Xml, Xmn, Xal, Xpr, Xnc, Xps, Xtp, Xsr, Xhi, Xwd, Xln, upd Xgc (G * 8 + d) (Xgc (G * 8 + d) + δ), upd Xpo G (Xpo G &&& (((1 : Int32) <<< (nI d &&& 31)) ^^^ (-1))), Xkd, Xmk, Xnu, Xfi, Xla, Xfo, Xac, Xhd, Xtl, Xmd, Xec, Xew, Xh1, Xh2))
    (k2 : ¬ Xgc (G * 8 + d) + δ ≤ 0 → post (Xdc, Xml, Xmn, Xal, Xpr, Xnc, Xps, Xtp, Xsr, Xhi, Xwd, Xln, upd Xgc (G * 8 + d) (Xgc (G * 8 + d) + δ), upd Xpo G (Xpo G ||| ((1 : Int32) <<< (nI d &&& 31))), Xkd, Xmk, Xnu, Xfi, Xla, Xfo, Xac, Xhd, Xtl, Xmd, Xec, Xew, Xh1, Xh2)) :
    wpX_countGram post (Xdc, Xml, Xmn, Xal, Xpr, Xnc, Xps, Xtp, Xsr, Xhi, Xwd, Xln, Xgc, Xpo, Xkd, Xmk, Xnu, Xfi, Xla, Xfo, Xac, Xhd, Xtl, Xmd, Xec, Xew, Xh1, Xh2) (nI d) (nI p) δ := by
  have hGl : G < 216 := by omega
  have i0 : (nI (d * 12 + p)).toNatClampNeg = d * 12 + p := nI_clamp (by omega)
  have i1 : (nI (d * 12 + p) + 1).toNatClampNeg = d * 12 + p + 1 := by rw [nI_1]; exact nI_clamp (by omega)
  have i2 : (nI (d * 12 + p) + 2).toNatClampNeg = d * 12 + p + 2 := by rw [ax_a2]; exact nI_clamp (by omega)
  have i3 : (nI (G * 8 + d)).toNatClampNeg = G * 8 + d := nI_clamp (by omega)
  have i4 : (nI G).toNatClampNeg = G := nI_clamp (by omega)
  unfold wpX_countGram
  refine br_f (nI_pos (by omega)) ⟨vp_in_nI hd (by omega), br_t ?_ ?_⟩
  · rw [nI_clamp (by omega), el, ax_a2]; exact nI_lt hp (by omega)
  · refine nm_r (e' := nI (d * 12 + p)) (by rw [ax_m12, nI_add]) ?_
    refine ⟨vp_in_nI (by omega) (by omega), ?_, ?_, ?_⟩
    · rw [nI_1]; exact vp_in_nI (by omega) (by omega)
    · rw [ax_a2]; exact vp_in_nI (by omega) (by omega)
    · refine nm_r (e' := nI G) (by rw [i0, i1, i2, ea, eb, ec, ax_m36, ax_m6, nI_add, nI_add, hG]) ?_
      refine nm_r (e' := nI (G * 8 + d)) (by rw [ax_m8, nI_add]) ?_
      have v1 : vp_in (nI (G * 8 + d)) 1728 := vp_in_nI (by omega) (by omega)
      have v2 : vp_in (nI G) 216 := vp_in_nI (by omega) (by omega)
      refine ⟨v1, v1, nm_r (e' := upd Xgc (G * 8 + d) (Xgc (G * 8 + d) + δ)) (by rw [i3]) ⟨v1, ?_⟩⟩
      rw [i3, pk_us, i4]
      exact br_c (fun h => ⟨v2, v2, nm_e (k1 h)⟩) (fun h => ⟨v2, v2, nm_e (k2 h)⟩)
end
/-- positions z .. hi of slot d are set to b -/
def ag_rng (C : Nat → Nat → Bool) (d : Nat) (z hi : Int) (L : Nat) (b : Bool) : Nat → Nat → Bool := fun d' p => if d' = d ∧ z ≤ (p : Int) ∧ (p : Int) ≤ hi ∧ p + 2 < L then b else C d' p
def rl_t (wd : Nat → Int32) (d p : Nat) : Nat := (wd (d * 12 + p)).toNatClampNeg
def rl_f (wd : Nat → Int32) (d p : Nat) : Nat := ad_tri (rl_t wd d) p
/-- every cell holds a letter -/
def rl_W (wd : Nat → Int32) (AL : Nat) : Prop := ∀ j, ∃ c, c < AL ∧ wd j = nI c
theorem rl_lt {wd : Nat → Int32} {AL : Nat} (h : rl_W wd AL) (hA : AL ≤ 6) (d p : Nat) : rl_t wd d p < AL := by
  obtain ⟨c, hc, e⟩ := h (d * 12 + p)
  unfold rl_t
  rw [e, nI_clamp (by omega)]; exact hc
theorem rl_6 {wd : Nat → Int32} {AL : Nat} (h : rl_W wd AL) (hA : AL ≤ 6) (d p : Nat) : rl_t wd d p < 6 := by
  have := rl_lt h hA d p; omega
theorem rl_e {wd : Nat → Int32} {AL : Nat} (h : rl_W wd AL) (hA : AL ≤ 6) (d p : Nat) : wd (d * 12 + p) = nI (rl_t wd d p) := by
  obtain ⟨c, hc, e⟩ := h (d * 12 + p)
  unfold rl_t
  rw [e, nI_clamp (by omega)]
theorem ag_rng_end {C : Nat → Nat → Bool} {d : Nat} {z hi : Int} {L : Nat} {b : Bool} (h : hi < z) : ag_rng C d z hi L b = C := by
  funext d' p
  exact if_neg (fun y => by omega)
theorem ag_rng_skip {C : Nat → Nat → Bool} {d : Nat} {z hi : Int} {L : Nat} {b : Bool} (h : z < 0 ∨ (L : Int) ≤ z + 2) : ag_rng C d (z + 1) hi L b = ag_rng C d z hi L b := by
  funext d' p
  unfold ag_rng
  by_cases y : d' = d ∧ z ≤ (p : Int) ∧ (p : Int) ≤ hi ∧ p + 2 < L
  · rw [if_pos y, if_pos (by omega)]
  · rw [if_neg y, if_neg (by omega)]
theorem ag_rng_ins {C : Nat → Nat → Bool} {d p : Nat} {hi : Int} {L : Nat} (hp : p + 2 < L) (hh : (p : Int) ≤ hi) : ag_rng (ag_up C d (ag_ins (C d) p)) d ((p : Int) + 1) hi L true = ag_rng C d p hi L true := by
  funext d' q
  unfold ag_rng ag_up ag_ins
  by_cases y : d' = d ∧ (p : Int) ≤ (q : Int) ∧ (q : Int) ≤ hi ∧ q + 2 < L
  · rw [if_pos y]
    by_cases e : q = p
    · rw [if_neg (by omega), if_pos y.1, if_pos e]
    · rw [if_pos (by omega)]
  · rw [if_neg y, if_neg (by omega)]
    by_cases e : d' = d
    · rw [if_pos e, if_neg (by omega), e]
    · rw [if_neg e]
theorem ag_rng_del {C : Nat → Nat → Bool} {d p : Nat} {hi : Int} {L : Nat} (hp : p + 2 < L) (hh : (p : Int) ≤ hi) : ag_rng (ag_up C d (ag_del (C d) p)) d ((p : Int) + 1) hi L false = ag_rng C d p hi L false := by
  funext d' q
  unfold ag_rng ag_up ag_del
  by_cases y : d' = d ∧ (p : Int) ≤ (q : Int) ∧ (q : Int) ≤ hi ∧ q + 2 < L
  · rw [if_pos y]
    by_cases e : q = p
    · rw [if_neg (by omega), if_pos y.1, if_pos e]
    · rw [if_pos (by omega)]
  · rw [if_neg y, if_neg (by omega)]
    by_cases e : d' = d
    · rw [if_pos e, if_neg (by omega), e]
    · rw [if_neg e]
section
variable {Xdc Xml Xmn Xal Xpr Xnc Xps Xtp Xsr Xhi : Int32} {Xwd Xln Xgc Xpo Xkd Xmk Xnu Xfi Xla Xfo Xac Xmd Xec Xew Xh1 Xh2 : Nat → Int32} {Xhd Xtl : Nat → Int64}
variable {D d L AL : Nat}
theorem xw_cgs_ins {post : SX → Prop} {hi : Int} (hD : D ≤ 8) (hd : d < D) (hL : L ≤ 12) (el : Xln d = nI L) (hh : hi ≤ 20) (hw : rl_W Xwd AL) (hA : AL ≤ 6) :
    ∀ (n : Nat) (z : Int) (gc po : Nat → Int32) (C : Nat → Nat → Bool), -20 ≤ z → z ≤ hi + 40 → (hi + 1 - z).toNat < n → ag_IG D gc po C (rl_f Xwd) →
      (∀ p : Nat, z ≤ (p : Int) → (p : Int) ≤ hi → p + 2 < L → C d p = false) →
      (∀ gc' po', ag_IG D gc' po' (ag_rng C d z hi L true) (rl_f Xwd) → post (Xdc, Xml, Xmn, Xal, Xpr, Xnc, Xps, Xtp, Xsr, Xhi, Xwd, Xln, gc', po', Xkd, Xmk, Xnu, Xfi, Xla, Xfo, Xac, Xhd, Xtl, Xmd, Xec, Xew, Xh1, Xh2)) →
      -30 ≤ hi → wX_countGrams_3 post (nI d) (iz hi) 1 n (iz z) Xdc Xml Xmn Xal Xpr Xnc Xps Xtp Xsr Xhi Xwd Xln gc po Xkd Xmk Xnu Xfi Xla Xfo Xac Xhd Xtl Xmd Xec Xew Xh1 Xh2 := by
  intro n
  induction n with
  | zero => intro z gc po C _ _ h; exact absurd h (by omega)
  | succ n ih =>
    intro z gc po C hz hz' hn hI hC k hh'
    unfold wX_countGrams_3
    by_cases e : hi < z
    · refine br_t ((iz_lt (by omega) (by omega) (by omega) (by omega)).mpr e) (k gc po ?_)
      rw [ag_rng_end e]; exact hI
    · refine br_f (fun y => e ((iz_lt (by omega) (by omega) (by omega) (by omega)).mp y)) ?_
      by_cases e2 : z < 0 ∨ (L : Int) ≤ z + 2
      · refine xw_cg0 (Xgc := gc) (Xpo := po) (by omega) hL (by omega) (by omega) el e2 ?_
        refine nm_r (iz_1 z) ?_
        refine ih (z + 1) gc po C (by omega) (by omega) (by omega) hI (fun p h1 h2 h3 => hC p (by omega) h2 h3) ?_ hh'
        rw [ag_rng_skip e2]; exact k
      · obtain ⟨p, ep⟩ : ∃ p : Nat, z = (p : Int) := ⟨z.toNat, by omega⟩
        subst ep
        rw [iz_n]
        have hG := ad_tri_lt (rl_6 hw hA d) p
        have h3 := ag_IG_ins hI (p := p) hD hd (by omega) (hC p (by omega) (by omega) (by omega)) rfl hG
        refine xw_cg1 (G := rl_f Xwd d p) (Xgc := gc) (Xpo := po) (by omega) (by omega) hL el (rl_e hw hA d p) (rl_e hw hA d (p + 1)) (rl_e hw hA d (p + 2)) (rl_6 hw hA _ _) (rl_6 hw hA _ _) (rl_6 hw hA _ _) rfl (fun y => absurd y h3.1) (fun _ => ?_)
        refine nm_r (e' := iz ((p : Int) + 1)) (by rw [← iz_n, iz_1]) ?_
        refine ih _ _ _ _ (by omega) (by omega) (by omega) h3.2 ?_ ?_ hh'
        · intro q h1 h2 h4
          show (if d = d then ag_ins (C d) p else C d) q = false
          rw [if_pos rfl]
          show (if q = p then true else C d q) = false
          rw [if_neg (by omega)]
          exact hC q (by omega) h2 h4
        · rw [ag_rng_ins (by omega) (by omega)]; exact k
theorem xw_cgs_del {post : SX → Prop} {hi : Int} (hD : D ≤ 8) (hd : d < D) (hL : L ≤ 12) (el : Xln d = nI L) (hh : hi ≤ 20) (hw : rl_W Xwd AL) (hA : AL ≤ 6) :
    ∀ (n : Nat) (z : Int) (gc po : Nat → Int32) (C : Nat → Nat → Bool), -20 ≤ z → z ≤ hi + 40 → (hi + 1 - z).toNat < n → ag_IG D gc po C (rl_f Xwd) →
      (∀ p : Nat, z ≤ (p : Int) → (p : Int) ≤ hi → p + 2 < L → C d p = true) →
      (∀ gc' po', ag_IG D gc' po' (ag_rng C d z hi L false) (rl_f Xwd) → post (Xdc, Xml, Xmn, Xal, Xpr, Xnc, Xps, Xtp, Xsr, Xhi, Xwd, Xln, gc', po', Xkd, Xmk, Xnu, Xfi, Xla, Xfo, Xac, Xhd, Xtl, Xmd, Xec, Xew, Xh1, Xh2)) →
      -30 ≤ hi → wX_countGrams_3 post (nI d) (iz hi) (-1) n (iz z) Xdc Xml Xmn Xal Xpr Xnc Xps Xtp Xsr Xhi Xwd Xln gc po Xkd Xmk Xnu Xfi Xla Xfo Xac Xhd Xtl Xmd Xec Xew Xh1 Xh2 := by
  intro n
  induction n with
  | zero => intro z gc po C _ _ h; exact absurd h (by omega)
  | succ n ih =>
    intro z gc po C hz hz' hn hI hC k hh'
    unfold wX_countGrams_3
    by_cases e : hi < z
    · refine br_t ((iz_lt (by omega) (by omega) (by omega) (by omega)).mpr e) (k gc po ?_)
      rw [ag_rng_end e]; exact hI
    · refine br_f (fun y => e ((iz_lt (by omega) (by omega) (by omega) (by omega)).mp y)) ?_
      by_cases e2 : z < 0 ∨ (L : Int) ≤ z + 2
      · refine xw_cg0 (Xgc := gc) (Xpo := po) (by omega) hL (by omega) (by omega) el e2 ?_
        refine nm_r (iz_1 z) ?_
        refine ih (z + 1) gc po C (by omega) (by omega) (by omega) hI (fun p h1 h2 h3 => hC p (by omega) h2 h3) ?_ hh'
        rw [ag_rng_skip e2]; exact k
      · obtain ⟨p, ep⟩ : ∃ p : Nat, z = (p : Int) := ⟨z.toNat, by omega⟩
        subst ep
        rw [iz_n]
        have hG := ad_tri_lt (rl_6 hw hA d) p
        have h3 := ag_IG_del hI (p := p) hD hd (by omega) (hC p (by omega) (by omega) (by omega)) rfl hG
        have fin : ∀ gc1 po1, ag_IG D gc1 po1 (ag_up C d (ag_del (C d) p)) (rl_f Xwd) → ∀ y, y = nI p + 1 → wX_countGrams_3 post (nI d) (iz hi) (-1) n y Xdc Xml Xmn Xal Xpr Xnc Xps Xtp Xsr Xhi Xwd Xln gc1 po1 Xkd Xmk Xnu Xfi Xla Xfo Xac Xhd Xtl Xmd Xec Xew Xh1 Xh2 := by
          intro gc1 po1 hI1
          refine nm_r (e' := iz ((p : Int) + 1)) (by rw [← iz_n, iz_1]) ?_
          refine ih _ _ _ _ (by omega) (by omega) (by omega) hI1 ?_ ?_ hh'
          · intro q h1 h2 h4
            show (if d = d then ag_del (C d) p else C d) q = true
            rw [if_pos rfl]
            show (if q = p then false else C d q) = true
            rw [if_neg (by omega)]
            exact hC q (by omega) h2 h4
          · rw [ag_rng_del (by omega) (by omega)]; exact k
        exact xw_cg1 (G := rl_f Xwd d p) (Xgc := gc) (Xpo := po) (by omega) (by omega) hL el (rl_e hw hA d p) (rl_e hw hA d (p + 1)) (rl_e hw hA d (p + 2)) (rl_6 hw hA _ _) (rl_6 hw hA _ _) (rl_6 hw hA _ _) rfl (fun y => fin _ _ (h3.1 y)) (fun y => fin _ _ (h3.2 y))
end
end
section
/-! ===== X: the document methods ===== -/
def rl_C (L : Nat → Nat) : Nat → Nat → Bool := fun d p => decide (p + 2 < L d)
def rl_z (L : Nat → Nat) (d m : Nat) : Nat → Nat := fun d' => if d' = d then m else L d'
theorem rl_zs {L : Nat → Nat} {d m : Nat} : rl_z L d m d = m := if_pos rfl
theorem rl_zn {L : Nat → Nat} {d m d' : Nat} (h : ¬ d' = d) : rl_z L d m d' = L d' := if_neg h
theorem rl_f_congr {wd wd' : Nat → Int32} {d p : Nat} (h : ∀ q, p ≤ q → q ≤ p + 2 → wd' (d * 12 + q) = wd (d * 12 + q)) : rl_f wd d p = rl_f wd' d p := by
  have h0 := h p (by omega) (by omega)
  have h1 := h (p + 1) (by omega) (by omega)
  have h2 := h (p + 2) (by omega) (by omega)
  unfold rl_f ad_tri rl_t
  rw [h0, h1, h2]
theorem rl_Wu {wd : Nat → Int32} {AL c : Nat} (h : rl_W wd AL) (hc : c < AL) (k : Nat) : rl_W (upd wd k (nI c)) AL := by
  intro j
  by_cases e : j = k
  · exact ⟨c, hc, by rw [e, pk_us]⟩
  · obtain ⟨b, hb, h⟩ := h j
    exact ⟨b, hb, by rw [pk_un e]; exact h⟩
/-- the words after i letters of slot a have gone to slot b -/
def rl_cp (wd : Nat → Int32) (a b : Nat) : Nat → Nat → Int32
  | 0 => wd
  | i + 1 => upd (rl_cp wd a b i) (b * 12 + i) (rl_cp wd a b i (a * 12 + i))
theorem rl_cp_o {wd : Nat → Int32} {a b : Nat} : ∀ {i j : Nat}, (∀ q, q < i → ¬ j = b * 12 + q) → rl_cp wd a b i j = wd j
  | 0, j, _ => rfl
  | i + 1, j, h => by
    show upd (rl_cp wd a b i) (b * 12 + i) (rl_cp wd a b i (a * 12 + i)) j = wd j
    rw [pk_un (h i (by omega))]
    exact rl_cp_o (fun q hq => h q (by omega))
theorem rl_cp_W {wd : Nat → Int32} {a b AL : Nat} (h : rl_W wd AL) : ∀ i, rl_W (rl_cp wd a b i) AL
  | 0 => h
  | i + 1 => by
    have ih := rl_cp_W (a := a) (b := b) h i
    obtain ⟨c, hc, e⟩ := ih (a * 12 + i)
    show rl_W (upd (rl_cp wd a b i) (b * 12 + i) (rl_cp wd a b i (a * 12 + i))) AL
    rw [e]
    exact rl_Wu ih hc _
theorem rl_cp_id {wd : Nat → Int32} {a : Nat} : ∀ i, rl_cp wd a a i = wd
  | 0 => rfl
  | i + 1 => by
    show upd (rl_cp wd a a i) (a * 12 + i) (rl_cp wd a a i (a * 12 + i)) = wd
    rw [rl_cp_id i]
    funext j
    by_cases e : j = a * 12 + i
    · rw [e, pk_us]
    · rw [pk_un e]
section
variable {Xdc Xml Xmn Xal Xpr Xnc Xps Xtp Xsr Xhi : Int32} {Xwd Xln Xgc Xpo Xkd Xmk Xnu Xfi Xla Xfo Xac Xmd Xec Xew Xh1 Xh2 : Nat → Int32} {Xhd Xtl : Nat → Int64}
variable {D d L AL : Nat}
theorem xw_isDoc_t {post : Int32 → Prop} (hD : D ≤ 8) (hd : d < D) (h : post 1) : wpX_isDoc post (nI D, Xml, Xmn, Xal, Xpr, Xnc, Xps, Xtp, Xsr, Xhi, Xwd, Xln, Xgc, Xpo, Xkd, Xmk, Xnu, Xfi, Xla, Xfo, Xac, Xhd, Xtl, Xmd, Xec, Xew, Xh1, Xh2) (nI d) := by
  unfold wpX_isDoc
  exact br_f (nI_pos (by omega)) (br_f (nI_ge hd (by omega)) h)
theorem xw_isDoc_f {post : Int32 → Prop} (hD : D ≤ 8) {p : Int32} (hp : ¬ ∃ d, d < D ∧ p = nI d) (h : post 0) : wpX_isDoc post (nI D, Xml, Xmn, Xal, Xpr, Xnc, Xps, Xtp, Xsr, Xhi, Xwd, Xln, Xgc, Xpo, Xkd, Xmk, Xnu, Xfi, Xla, Xfo, Xac, Xhd, Xtl, Xmd, Xec, Xew, Xh1, Xh2) p :=
  xw_isDoc hD p (fun _ => h) (fun d hd e => absurd ⟨d, hd, e⟩ hp)
theorem xw_isLetter_t {post : Int32 → Prop} (hD : D ≤ 8) (hd : d < D) (h : post 1) : wpX_isLetter post (Xdc, Xml, Xmn, nI D, Xpr, Xnc, Xps, Xtp, Xsr, Xhi, Xwd, Xln, Xgc, Xpo, Xkd, Xmk, Xnu, Xfi, Xla, Xfo, Xac, Xhd, Xtl, Xmd, Xec, Xew, Xh1, Xh2) (nI d) := by
  unfold wpX_isLetter
  exact br_f (nI_pos (by omega)) (br_f (nI_ge hd (by omega)) h)
theorem xw_isLetter_f {post : Int32 → Prop} (hD : D ≤ 8) {p : Int32} (hp : ¬ ∃ d, d < D ∧ p = nI d) (h : post 0) : wpX_isLetter post (Xdc, Xml, Xmn, nI D, Xpr, Xnc, Xps, Xtp, Xsr, Xhi, Xwd, Xln, Xgc, Xpo, Xkd, Xmk, Xnu, Xfi, Xla, Xfo, Xac, Xhd, Xtl, Xmd, Xec, Xew, Xh1, Xh2) p :=
  xw_isLetter hD p (fun _ => h) (fun d hd e => absurd ⟨d, hd, e⟩ hp)
theorem xw_isPresent_t {post : Int32 → Prop} (hd : d < 8) (hp : bt Xpr d = true) (h : post 1) : wpX_isPresent post (Xdc, Xml, Xmn, Xal, Xpr, Xnc, Xps, Xtp, Xsr, Xhi, Xwd, Xln, Xgc, Xpo, Xkd, Xmk, Xnu, Xfi, Xla, Xfo, Xac, Xhd, Xtl, Xmd, Xec, Xew, Xh1, Xh2) (nI d) :=
  xw_isPresent hd (fun z => absurd (hp.symm.trans z) (by decide)) (fun _ => h)
theorem xw_isPresent_f {post : Int32 → Prop} (hd : d < 8) (hp : bt Xpr d = false) (h : post 0) : wpX_isPresent post (Xdc, Xml, Xmn, Xal, Xpr, Xnc, Xps, Xtp, Xsr, Xhi, Xwd, Xln, Xgc, Xpo, Xkd, Xmk, Xnu, Xfi, Xla, Xfo, Xac, Xhd, Xtl, Xmd, Xec, Xew, Xh1, Xh2) (nI d) :=
  xw_isPresent hd (fun _ => h) (fun z => absurd (hp.symm.trans z) (by decide))
theorem xw_cGi {post : SX → Prop} {lo hi : Int} {x y : Int32} {C : Nat → Nat → Bool} (ex : x = iz lo) (ey : y = iz hi) (hD : D ≤ 8) (hd : d < D) (hL : L ≤ 12) (el : Xln d = nI L) (hw : rl_W Xwd AL) (hA : AL ≤ 6)
    (h1 : -20 ≤ lo) (h2 : lo ≤ 20) (h3 : -20 ≤ hi) (h4 : hi ≤ 20) (hI : ag_IG D Xgc Xpo C (rl_f Xwd))
    (hC : ∀ p : Nat, lo ≤ (p : Int) → (p : Int) ≤ hi → p + 2 < L → C d p = false)
    (k : ∀ gc' po', ag_IG D gc' po' (ag_rng C d lo hi L true) (rl_f Xwd) → post (Xdc, Xml, Xmn, Xal, Xpr, Xnc, Xps, Xtp, Xsr, Xhi, Xwd, Xln, gc', po', Xkd, Xmk, Xnu, Xfi, Xla, Xfo, Xac, Xhd, Xtl, Xmd, Xec, Xew, Xh1, Xh2)) : wpX_countGrams post (Xdc, Xml, Xmn, Xal, Xpr, Xnc, Xps, Xtp, Xsr, Xhi, Xwd, Xln, Xgc, Xpo, Xkd, Xmk, Xnu, Xfi, Xla, Xfo, Xac, Xhd, Xtl, Xmd, Xec, Xew, Xh1, Xh2) (nI d) x y 1 := by
  rw [ex, ey]
  unfold wpX_countGrams
  exact ⟨_, xw_cgs_ins hD hd hL el h4 hw hA ((hi + 1 - lo).toNat + 1) lo Xgc Xpo C h1 (by omega) (by omega) hI hC k (by omega)⟩
theorem xw_cGd {post : SX → Prop} {lo hi : Int} {x y : Int32} {C : Nat → Nat → Bool} (ex : x = iz lo) (ey : y = iz hi) (hD : D ≤ 8) (hd : d < D) (hL : L ≤ 12) (el : Xln d = nI L) (hw : rl_W Xwd AL) (hA : AL ≤ 6)
    (h1 : -20 ≤ lo) (h2 : lo ≤ 20) (h3 : -20 ≤ hi) (h4 : hi ≤ 20) (hI : ag_IG D Xgc Xpo C (rl_f Xwd))
    (hC : ∀ p : Nat, lo ≤ (p : Int) → (p : Int) ≤ hi → p + 2 < L → C d p = true)
    (k : ∀ gc' po', ag_IG D gc' po' (ag_rng C d lo hi L false) (rl_f Xwd) → post (Xdc, Xml, Xmn, Xal, Xpr, Xnc, Xps, Xtp, Xsr, Xhi, Xwd, Xln, gc', po', Xkd, Xmk, Xnu, Xfi, Xla, Xfo, Xac, Xhd, Xtl, Xmd, Xec, Xew, Xh1, Xh2)) : wpX_countGrams post (Xdc, Xml, Xmn, Xal, Xpr, Xnc, Xps, Xtp, Xsr, Xhi, Xwd, Xln, Xgc, Xpo, Xkd, Xmk, Xnu, Xfi, Xla, Xfo, Xac, Xhd, Xtl, Xmd, Xec, Xew, Xh1, Xh2) (nI d) x y (-1) := by
  rw [ex, ey]
  unfold wpX_countGrams
  exact ⟨_, xw_cgs_del hD hd hL el h4 hw hA ((hi + 1 - lo).toNat + 1) lo Xgc Xpo C h1 (by omega) (by omega) hI hC k (by omega)⟩
end
section
variable {Xdc Xml Xmn Xal Xpr Xnc Xps Xtp Xsr Xhi : Int32} {Xwd Xln Xgc Xpo Xkd Xmk Xnu Xfi Xla Xfo Xac Xmd Xec Xew Xh1 Xh2 : Nat → Int32} {Xhd Xtl : Nat → Int64}
variable {D d AL c ML : Nat} {L : Nat → Nat}
theorem xw_clear {post : SX → Prop} (hD : D ≤ 8) (hd : d < D) (hL : L d ≤ 12) (el : Xln d = nI (L d)) (hw : rl_W Xwd AL) (hA : AL ≤ 6) (hI : ag_IG D Xgc Xpo (rl_C L) (rl_f Xwd))
    (k : ∀ gc po, ag_IG D gc po (rl_C (rl_z L d 0)) (rl_f Xwd) → post (Xdc, Xml, Xmn, Xal, Xpr, Xnc, Xps, Xtp, Xsr, Xhi, Xwd, upd Xln d 0, gc, po, Xkd, Xmk, Xnu, Xfi, Xla, Xfo, Xac, Xhd, Xtl, Xmd, Xec, Xew, Xh1, Xh2)) : wpX_clearWord post (Xdc, Xml, Xmn, Xal, Xpr, Xnc, Xps, Xtp, Xsr, Xhi, Xwd, Xln, Xgc, Xpo, Xkd, Xmk, Xnu, Xfi, Xla, Xfo, Xac, Xhd, Xtl, Xmd, Xec, Xew, Xh1, Xh2) (nI d) := by
  have v8 : vp_in (nI d) 8 := vp_in_nI (by omega) (by omega)
  have ic : (nI d).toNatClampNeg = d := nI_clamp (by omega)
  unfold wpX_clearWord
  refine ⟨v8, ?_⟩
  refine xw_cGd (lo := 0) (hi := (L d : Int) - 3) rfl (by rw [ic, el]; exact iz_sub (L d) 3) hD hd hL el hw hA (by omega) (by omega) (by omega) (by omega) hI ?_ ?_
  · intro p _ _ h
    exact decide_eq_true h
  · intro gc po hI'
    refine ⟨v8, nm_r (e' := upd Xln d 0) (by rw [ic]) (k gc po (ag_IG_congr hI' ?_ (fun _ _ _ _ _ => rfl)))⟩
    intro d' j hd' hj
    unfold ag_rng rl_C
    by_cases e : d' = d
    · rw [e, rl_zs]
      by_cases h : j + 2 < L d
      · rw [if_pos (by omega)]; rfl
      · rw [if_neg (by omega), decide_eq_false h]; rfl
    · rw [if_neg (fun y => e y.1), rl_zn e]
theorem xw_open_f {post : Int32 → SX → Prop} (hD : D ≤ 8) {p : Int32} (hp : ¬ ∃ d, d < D ∧ p = nI d) (k : post (-1) (nI D, Xml, Xmn, Xal, Xpr, Xnc, Xps, Xtp, Xsr, Xhi, Xwd, Xln, Xgc, Xpo, Xkd, Xmk, Xnu, Xfi, Xla, Xfo, Xac, Xhd, Xtl, Xmd, Xec, Xew, Xh1, Xh2)) : wpX_open post (nI D, Xml, Xmn, Xal, Xpr, Xnc, Xps, Xtp, Xsr, Xhi, Xwd, Xln, Xgc, Xpo, Xkd, Xmk, Xnu, Xfi, Xla, Xfo, Xac, Xhd, Xtl, Xmd, Xec, Xew, Xh1, Xh2) p := by
  unfold wpX_open
  exact xw_isDoc_f hD hp (br_t rfl k)
theorem xw_open_t {post : Int32 → SX → Prop} (hD : D ≤ 8) (hd : d < D) (hL : L d ≤ 12) (el : Xln d = nI (L d)) (hw : rl_W Xwd AL) (hA : AL ≤ 6) (hI : ag_IG D Xgc Xpo (rl_C L) (rl_f Xwd))
    (k : ∀ gc po, ag_IG D gc po (rl_C (rl_z L d 0)) (rl_f Xwd) → post 0 (nI D, Xml, Xmn, Xal, Xpr ||| ((1 : Int32) <<< (nI d &&& 31)), Xnc, Xps, Xtp, Xsr, Xhi, Xwd, upd Xln d 0, gc, po, Xkd, Xmk, Xnu, Xfi, Xla, Xfo, Xac, Xhd, Xtl, Xmd, Xec, Xew, Xh1, Xh2)) : wpX_open post (nI D, Xml, Xmn, Xal, Xpr, Xnc, Xps, Xtp, Xsr, Xhi, Xwd, Xln, Xgc, Xpo, Xkd, Xmk, Xnu, Xfi, Xla, Xfo, Xac, Xhd, Xtl, Xmd, Xec, Xew, Xh1, Xh2) (nI d) := by
  unfold wpX_open
  refine xw_isDoc_t hD hd (br_f (by decide) ?_)
  exact xw_clear hD hd hL el hw hA hI (fun gc po hI' => nm_e (k gc po hI'))
theorem xw_append_f1 {post : Int32 → SX → Prop} (hD : D ≤ 8) {p q : Int32} (hp : ¬ ∃ d, d < D ∧ p = nI d) (k : post (-1) (nI D, Xml, Xmn, Xal, Xpr, Xnc, Xps, Xtp, Xsr, Xhi, Xwd, Xln, Xgc, Xpo, Xkd, Xmk, Xnu, Xfi, Xla, Xfo, Xac, Xhd, Xtl, Xmd, Xec, Xew, Xh1, Xh2)) : wpX_append post (nI D, Xml, Xmn, Xal, Xpr, Xnc, Xps, Xtp, Xsr, Xhi, Xwd, Xln, Xgc, Xpo, Xkd, Xmk, Xnu, Xfi, Xla, Xfo, Xac, Xhd, Xtl, Xmd, Xec, Xew, Xh1, Xh2) p q := by
  unfold wpX_append
  exact xw_isDoc_f hD hp (br_t rfl k)
theorem xw_append_f2 {post : Int32 → SX → Prop} (hD : D ≤ 8) (hd : d < D) (hA : AL ≤ 6) {q : Int32} (hp : ¬ ∃ d, d < AL ∧ q = nI d) (k : post (-1) (nI D, Xml, Xmn, nI AL, Xpr, Xnc, Xps, Xtp, Xsr, Xhi, Xwd, Xln, Xgc, Xpo, Xkd, Xmk, Xnu, Xfi, Xla, Xfo, Xac, Xhd, Xtl, Xmd, Xec, Xew, Xh1, Xh2)) : wpX_append post (nI D, Xml, Xmn, nI AL, Xpr, Xnc, Xps, Xtp, Xsr, Xhi, Xwd, Xln, Xgc, Xpo, Xkd, Xmk, Xnu, Xfi, Xla, Xfo, Xac, Xhd, Xtl, Xmd, Xec, Xew, Xh1, Xh2) (nI d) q := by
  unfold wpX_append
  exact xw_isDoc_t hD hd (br_f (by decide) (xw_isLetter_f (by omega) hp (br_t rfl k)))
theorem xw_append_f3 {post : Int32 → SX → Prop} (hD : D ≤ 8) (hd : d < D) (hA : AL ≤ 6) (hc : c < AL) (hp : bt Xpr d = false) (k : post (-5) (nI D, Xml, Xmn, nI AL, Xpr, Xnc, Xps, Xtp, Xsr, Xhi, Xwd, Xln, Xgc, Xpo, Xkd, Xmk, Xnu, Xfi, Xla, Xfo, Xac, Xhd, Xtl, Xmd, Xec, Xew, Xh1, Xh2)) : wpX_append post (nI D, Xml, Xmn, nI AL, Xpr, Xnc, Xps, Xtp, Xsr, Xhi, Xwd, Xln, Xgc, Xpo, Xkd, Xmk, Xnu, Xfi, Xla, Xfo, Xac, Xhd, Xtl, Xmd, Xec, Xew, Xh1, Xh2) (nI d) (nI c) := by
  unfold wpX_append
  exact xw_isDoc_t hD hd (br_f (by decide) (xw_isLetter_t (by omega) hc (br_f (by decide) (xw_isPresent_f (by omega) hp (br_t rfl k)))))
theorem xw_append_f4 {post : Int32 → SX → Prop} (hD : D ≤ 8) (hd : d < D) (hA : AL ≤ 6) (hc : c < AL) (hp : bt Xpr d = true) (hM : ML ≤ 12) (hL : ML ≤ L d) (hL' : L d ≤ 12) (el : Xln d = nI (L d)) (k : post (-2) (nI D, nI ML, Xmn, nI AL, Xpr, Xnc, Xps, Xtp, Xsr, Xhi, Xwd, Xln, Xgc, Xpo, Xkd, Xmk, Xnu, Xfi, Xla, Xfo, Xac, Xhd, Xtl, Xmd, Xec, Xew, Xh1, Xh2)) : wpX_append post (nI D, nI ML, Xmn, nI AL, Xpr, Xnc, Xps, Xtp, Xsr, Xhi, Xwd, Xln, Xgc, Xpo, Xkd, Xmk, Xnu, Xfi, Xla, Xfo, Xac, Xhd, Xtl, Xmd, Xec, Xew, Xh1, Xh2) (nI d) (nI c) := by
  have v8 : vp_in (nI d) 8 := vp_in_nI (by omega) (by omega)
  unfold wpX_append
  refine xw_isDoc_t hD hd (br_f (by decide) (xw_isLetter_t (by omega) hc (br_f (by decide) (xw_isPresent_t (by omega) hp (br_f (by decide) ⟨v8, br_f ?_ k⟩)))))
  rw [nI_clamp (by omega), el]
  exact nI_nlt hL (by omega)
theorem xw_append_t {post : Int32 → SX → Prop} (hD : D ≤ 8) (hd : d < D) (hA : AL ≤ 6) (hc : c < AL) (hp : bt Xpr d = true) (hM : ML ≤ 12) (hL : L d < ML) (hL8 : ∀ d, d < 8 → L d ≤ 12) (el : Xln d = nI (L d)) (hw : rl_W Xwd AL) (hI : ag_IG D Xgc Xpo (rl_C L) (rl_f Xwd))
    (k : ∀ gc po, ag_IG D gc po (rl_C (rl_z L d (L d + 1))) (rl_f (upd Xwd (d * 12 + L d) (nI c))) → post (nI (L d + 1)) (nI D, nI ML, Xmn, nI AL, Xpr, Xnc, Xps, Xtp, Xsr, Xhi, upd Xwd (d * 12 + L d) (nI c), upd Xln d (nI (L d + 1)), gc, po, Xkd, Xmk, Xnu, Xfi, Xla, Xfo, Xac, Xhd, Xtl, Xmd, Xec, Xew, Xh1, Xh2)) : wpX_append post (nI D, nI ML, Xmn, nI AL, Xpr, Xnc, Xps, Xtp, Xsr, Xhi, Xwd, Xln, Xgc, Xpo, Xkd, Xmk, Xnu, Xfi, Xla, Xfo, Xac, Xhd, Xtl, Xmd, Xec, Xew, Xh1, Xh2) (nI d) (nI c) := by
  have v8 : vp_in (nI d) 8 := vp_in_nI (by omega) (by omega)
  have ic : (nI d).toNatClampNeg = d := nI_clamp (by omega)
  have hI' : ag_IG D Xgc Xpo (rl_C L) (rl_f (upd Xwd (d * 12 + L d) (nI c))) := by
    refine ag_IG_congr hI (fun _ _ _ _ => rfl) ?_
    intro d' j hd' hj h
    have h := of_decide_eq_true h
    have := hL8 d' hd'
    refine rl_f_congr (fun q h1 h2 => pk_un ?_)
    intro e
    have : d' = d := by omega
    subst this
    omega
  unfold wpX_append
  refine xw_isDoc_t hD hd (br_f (by decide) (xw_isLetter_t (by omega) hc (br_f (by decide) (xw_isPresent_t (by omega) hp (br_f (by decide) ⟨v8, br_t ?_ ⟨v8, ?_, ?_⟩⟩)))))
  · rw [ic, el]
    exact nI_lt hL (by omega)
  · rw [ic, el, ax_m12, nI_add]
    exact vp_in_nI (by omega) (by omega)
  · refine nm_r (e' := upd Xwd (d * 12 + L d) (nI c)) (by rw [ic, el, ax_m12, nI_add, nI_clamp (by omega)]) ?_
    refine ⟨v8, v8, nm_r (e' := upd Xln d (nI (L d + 1))) (by rw [ic, el, nI_1]) ⟨v8, ?_⟩⟩
    have e3 : (upd Xln d (nI (L d + 1))) (nI d).toNatClampNeg - 3 = iz (((L d + 1 : Nat) : Int) - 3) := by
      rw [ic, pk_us]; exact iz_sub (L d + 1) 3
    rw [e3]
    by_cases h : L d + 1 < 3
    · refine xw_cg0 (Xwd := upd Xwd (d * 12 + L d) (nI c)) (Xln := upd Xln d (nI (L d + 1))) (L := L d + 1) (by omega) (by omega) (by omega) (by omega) pk_us (by omega) ?_
      refine ⟨v8, ?_⟩
      rw [ic, pk_us]
      refine k _ _ (ag_IG_congr hI' ?_ (fun _ _ _ _ _ => rfl))
      intro d' j hd' hj
      unfold rl_C
      by_cases e : d' = d
      · rw [e, rl_zs, decide_eq_false (by omega), decide_eq_false (by omega)]
      · rw [rl_zn e]
    · obtain ⟨p, ep⟩ : ∃ p, L d = p + 2 := ⟨L d - 2, by omega⟩
      have e4 : iz (((L d + 1 : Nat) : Int) - 3) = nI p := by rw [← iz_n]; exact congrArg iz (by omega)
      rw [e4]
      have hw' : rl_W (upd Xwd (d * 12 + L d) (nI c)) AL := rl_Wu hw hc _
      have hG := ad_tri_lt (rl_6 hw' hA d) p
      have h3 := ag_IG_ins hI' (d := d) (p := p) hD hd (by omega) (decide_eq_false (by omega)) rfl hG
      refine xw_cg1 (Xwd := upd Xwd (d * 12 + L d) (nI c)) (Xln := upd Xln d (nI (L d + 1))) (G := rl_f (upd Xwd (d * 12 + L d) (nI c)) d p) (L := L d + 1) (by omega) (by omega) (by omega) pk_us (rl_e hw' hA d p) (rl_e hw' hA d (p + 1)) (rl_e hw' hA d (p + 2)) (rl_6 hw' hA _ _) (rl_6 hw' hA _ _) (rl_6 hw' hA _ _) rfl (fun y => absurd y h3.1) (fun _ => ?_)
      refine ⟨v8, ?_⟩
      rw [ic, pk_us]
      refine k _ _ (ag_IG_congr h3.2 ?_ (fun _ _ _ _ _ => rfl))
      intro d' j hd' hj
      unfold ag_up ag_ins rl_C
      by_cases e : d' = d
      · rw [if_pos e, e, rl_zs]
        by_cases ej : j = p
        · rw [if_pos ej, decide_eq_true (by omega)]
        · rw [if_neg ej]
          by_cases hj2 : j + 2 < L d
          · rw [decide_eq_true hj2, decide_eq_true (by omega)]
          · rw [decide_eq_false hj2, decide_eq_false (by omega)]
      · rw [if_neg e, rl_zn e]
end
end
section
/-! ===== X: change, copy, erase, length, letterAt, gram ===== -/
theorem ax_uu {f : Nat → Int32} {k : Nat} {x y : Int32} : upd (upd f k x) k y = upd f k y := by
  funext j
  by_cases e : j = k
  · rw [e, pk_us, pk_us]
  · rw [pk_un e, pk_un e, pk_un e]
section
variable {Xdc Xml Xmn Xal Xpr Xnc Xps Xtp Xsr Xhi : Int32} {Xwd Xln Xgc Xpo Xkd Xmk Xnu Xfi Xla Xfo Xac Xmd Xec Xew Xh1 Xh2 : Nat → Int32} {Xhd Xtl : Nat → Int64}
variable {D d AL c ML a b : Nat} {L : Nat → Nat}
theorem xw_change_f1 {post : Int32 → SX → Prop} (hD : D ≤ 8) {p p1 q : Int32} (hp : ¬ ∃ d, d < D ∧ p = nI d) (k : post (-1) (nI D, Xml, Xmn, Xal, Xpr, Xnc, Xps, Xtp, Xsr, Xhi, Xwd, Xln, Xgc, Xpo, Xkd, Xmk, Xnu, Xfi, Xla, Xfo, Xac, Xhd, Xtl, Xmd, Xec, Xew, Xh1, Xh2)) : wpX_change post (nI D, Xml, Xmn, Xal, Xpr, Xnc, Xps, Xtp, Xsr, Xhi, Xwd, Xln, Xgc, Xpo, Xkd, Xmk, Xnu, Xfi, Xla, Xfo, Xac, Xhd, Xtl, Xmd, Xec, Xew, Xh1, Xh2) p p1 q := by
  unfold wpX_change
  exact xw_isDoc_f hD hp (br_t rfl k)
theorem xw_change_f2 {post : Int32 → SX → Prop} (hD : D ≤ 8) (hd : d < D) (hA : AL ≤ 6) {p1 q : Int32} (hp : ¬ ∃ d, d < AL ∧ q = nI d) (k : post (-1) (nI D, Xml, Xmn, nI AL, Xpr, Xnc, Xps, Xtp, Xsr, Xhi, Xwd, Xln, Xgc, Xpo, Xkd, Xmk, Xnu, Xfi, Xla, Xfo, Xac, Xhd, Xtl, Xmd, Xec, Xew, Xh1, Xh2)) : wpX_change post (nI D, Xml, Xmn, nI AL, Xpr, Xnc, Xps, Xtp, Xsr, Xhi, Xwd, Xln, Xgc, Xpo, Xkd, Xmk, Xnu, Xfi, Xla, Xfo, Xac, Xhd, Xtl, Xmd, Xec, Xew, Xh1, Xh2) (nI d) p1 q := by
  unfold wpX_change
  exact xw_isDoc_t hD hd (br_f (by decide) (xw_isLetter_f (by omega) hp (br_t rfl k)))
theorem xw_change_f3 {post : Int32 → SX → Prop} (hD : D ≤ 8) (hd : d < D) (hA : AL ≤ 6) (hc : c < AL) {p1 : Int32} (hp : bt Xpr d = false) (k : post (-5) (nI D, Xml, Xmn, nI AL, Xpr, Xnc, Xps, Xtp, Xsr, Xhi, Xwd, Xln, Xgc, Xpo, Xkd, Xmk, Xnu, Xfi, Xla, Xfo, Xac, Xhd, Xtl, Xmd, Xec, Xew, Xh1, Xh2)) : wpX_change post (nI D, Xml, Xmn, nI AL, Xpr, Xnc, Xps, Xtp, Xsr, Xhi, Xwd, Xln, Xgc, Xpo, Xkd, Xmk, Xnu, Xfi, Xla, Xfo, Xac, Xhd, Xtl, Xmd, Xec, Xew, Xh1, Xh2) (nI d) p1 (nI c) := by
  unfold wpX_change
  exact xw_isDoc_t hD hd (br_f (by decide) (xw_isLetter_t (by omega) hc (br_f (by decide) (xw_isPresent_f (by omega) hp (br_t rfl k)))))
theorem xw_change_f4 {post : Int32 → SX → Prop} (hD : D ≤ 8) (hd : d < D) (hA : AL ≤ 6) (hc : c < AL) {p1 : Int32} (hp : bt Xpr d = true) (hL : L d ≤ 12) (el : Xln d = nI (L d)) (hn : ¬ ∃ p, p < L d ∧ p1 = nI p) (k : post (-1) (nI D, Xml, Xmn, nI AL, Xpr, Xnc, Xps, Xtp, Xsr, Xhi, Xwd, Xln, Xgc, Xpo, Xkd, Xmk, Xnu, Xfi, Xla, Xfo, Xac, Xhd, Xtl, Xmd, Xec, Xew, Xh1, Xh2)) : wpX_change post (nI D, Xml, Xmn, nI AL, Xpr, Xnc, Xps, Xtp, Xsr, Xhi, Xwd, Xln, Xgc, Xpo, Xkd, Xmk, Xnu, Xfi, Xla, Xfo, Xac, Xhd, Xtl, Xmd, Xec, Xew, Xh1, Xh2) (nI d) p1 (nI c) := by
  have v8 : vp_in (nI d) 8 := vp_in_nI (by omega) (by omega)
  unfold wpX_change
  refine xw_isDoc_t hD hd (br_f (by decide) (xw_isLetter_t (by omega) hc (br_f (by decide) (xw_isPresent_t (by omega) hp (br_f (by decide) ?_)))))
  refine br_c (fun _ => k) (fun h0 => ⟨v8, br_f ?_ k⟩)
  rw [nI_clamp (by omega), el]
  intro h
  rcases pk_ix p1 (n := L d) (by omega) with z | z | z
  · exact h0 z
  · exact Int32.not_lt.mpr z h
  · exact hn z
theorem xw_change_t {post : Int32 → SX → Prop} (hD : D ≤ 8) (hd : d < D) (hA : AL ≤ 6) (hc : c < AL) {p : Nat} (hp : bt Xpr d = true) (hL8 : ∀ d, d < 8 → L d ≤ 12) (el : Xln d = nI (L d)) (hw : rl_W Xwd AL) (hI : ag_IG D Xgc Xpo (rl_C L) (rl_f Xwd)) (hpl : p < L d)
    (k : ∀ gc po, ag_IG D gc po (rl_C L) (rl_f (upd Xwd (d * 12 + p) (nI c))) → post (Xwd (d * 12 + p)) (nI D, Xml, Xmn, nI AL, Xpr, Xnc, Xps, Xtp, Xsr, Xhi, upd Xwd (d * 12 + p) (nI c), Xln, gc, po, Xkd, Xmk, Xnu, Xfi, Xla, Xfo, Xac, Xhd, Xtl, Xmd, Xec, Xew, Xh1, Xh2)) : wpX_change post (nI D, Xml, Xmn, nI AL, Xpr, Xnc, Xps, Xtp, Xsr, Xhi, Xwd, Xln, Xgc, Xpo, Xkd, Xmk, Xnu, Xfi, Xla, Xfo, Xac, Xhd, Xtl, Xmd, Xec, Xew, Xh1, Xh2) (nI d) (nI p) (nI c) := by
  have v8 : vp_in (nI d) 8 := vp_in_nI (by omega) (by omega)
  have ic : (nI d).toNatClampNeg = d := nI_clamp (by omega)
  have hLd := hL8 d (by omega)
  have ip : (nI d * 12 + nI p).toNatClampNeg = d * 12 + p := by rw [ax_m12, nI_add, nI_clamp (by omega)]
  have vp : vp_in (nI d * 12 + nI p) 96 := by rw [ax_m12, nI_add]; exact vp_in_nI (by omega) (by omega)
  have e2 : nI p - 2 = iz ((p : Int) - 2) := iz_sub p 2
  unfold wpX_change
  refine xw_isDoc_t hD hd (br_f (by decide) (xw_isLetter_t (by omega) hc (br_f (by decide) (xw_isPresent_t (by omega) hp (br_f (by decide) ?_)))))
  refine br_f (nI_pos (by omega)) ⟨v8, br_t ?_ ⟨vp, ?_⟩⟩
  · rw [ic, el]; exact nI_lt hpl (by omega)
  · refine nm_r (e' := Xwd (d * 12 + p)) (by rw [ip]) ?_
    refine xw_cGd (lo := (p : Int) - 2) (hi := (p : Int)) e2 (iz_n p).symm hD hd hLd el hw hA (by omega) (by omega) (by omega) (by omega) hI ?_ ?_
    · intro j _ _ h
      exact decide_eq_true h
    · intro gc po hI1
      refine ⟨vp, nm_r (e' := upd Xwd (d * 12 + p) (nI c)) (by rw [ip]) ?_⟩
      have hw' : rl_W (upd Xwd (d * 12 + p) (nI c)) AL := rl_Wu hw hc _
      have hI2 : ag_IG D gc po (ag_rng (rl_C L) d ((p : Int) - 2) (p : Int) (L d) false) (rl_f (upd Xwd (d * 12 + p) (nI c))) := by
        refine ag_IG_congr hI1 (fun _ _ _ _ => rfl) ?_
        intro d' j hd' hj h
        have h8 := hL8 d' hd'
        unfold ag_rng at h
        by_cases y : d' = d ∧ (p : Int) - 2 ≤ (j : Int) ∧ (j : Int) ≤ (p : Int) ∧ j + 2 < L d
        · rw [if_pos y] at h; exact absurd h (by decide)
        · rw [if_neg y] at h
          have h := of_decide_eq_true h
          refine rl_f_congr (fun q h1 h2 => pk_un ?_)
          intro e
          have e5 : d' = d := by omega
          subst e5
          exact y ⟨rfl, by omega, by omega, h⟩
      refine xw_cGi (Xwd := upd Xwd (d * 12 + p) (nI c)) (Xgc := gc) (Xpo := po) (lo := (p : Int) - 2) (hi := (p : Int)) e2 (iz_n p).symm hD hd hLd el hw' hA (by omega) (by omega) (by omega) (by omega) hI2 ?_ ?_
      · intro j h1 h2 h3
        unfold ag_rng
        rw [if_pos ⟨rfl, h1, h2, h3⟩]
      · intro gc' po' hI3
        refine k gc' po' (ag_IG_congr hI3 ?_ (fun _ _ _ _ _ => rfl))
        intro d' j hd' hj
        unfold ag_rng
        by_cases y : d' = d ∧ (p : Int) - 2 ≤ (j : Int) ∧ (j : Int) ≤ (p : Int) ∧ j + 2 < L d
        · rw [if_pos y]
          unfold rl_C
          rw [y.1, decide_eq_true y.2.2.2]
        · rw [if_neg y, if_neg y]
theorem xw_copy_f1 {post : Int32 → SX → Prop} (hD : D ≤ 8) {p q : Int32} (hp : ¬ ∃ d, d < D ∧ p = nI d) (k : post (-1) (nI D, Xml, Xmn, Xal, Xpr, Xnc, Xps, Xtp, Xsr, Xhi, Xwd, Xln, Xgc, Xpo, Xkd, Xmk, Xnu, Xfi, Xla, Xfo, Xac, Xhd, Xtl, Xmd, Xec, Xew, Xh1, Xh2)) : wpX_copy post (nI D, Xml, Xmn, Xal, Xpr, Xnc, Xps, Xtp, Xsr, Xhi, Xwd, Xln, Xgc, Xpo, Xkd, Xmk, Xnu, Xfi, Xla, Xfo, Xac, Xhd, Xtl, Xmd, Xec, Xew, Xh1, Xh2) p q := by
  unfold wpX_copy
  exact xw_isDoc_f hD hp (br_t rfl k)
theorem xw_copy_f2 {post : Int32 → SX → Prop} (hD : D ≤ 8) (ha : a < D) {q : Int32} (hp : ¬ ∃ d, d < D ∧ q = nI d) (k : post (-1) (nI D, Xml, Xmn, Xal, Xpr, Xnc, Xps, Xtp, Xsr, Xhi, Xwd, Xln, Xgc, Xpo, Xkd, Xmk, Xnu, Xfi, Xla, Xfo, Xac, Xhd, Xtl, Xmd, Xec, Xew, Xh1, Xh2)) : wpX_copy post (nI D, Xml, Xmn, Xal, Xpr, Xnc, Xps, Xtp, Xsr, Xhi, Xwd, Xln, Xgc, Xpo, Xkd, Xmk, Xnu, Xfi, Xla, Xfo, Xac, Xhd, Xtl, Xmd, Xec, Xew, Xh1, Xh2) (nI a) q := by
  unfold wpX_copy
  exact xw_isDoc_t hD ha (br_f (by decide) (xw_isDoc_f hD hp (br_t rfl k)))
theorem xw_copy_f3 {post : Int32 → SX → Prop} (hD : D ≤ 8) (ha : a < D) (hb : b < D) (hp : bt Xpr a = false) (k : post (-5) (nI D, Xml, Xmn, Xal, Xpr, Xnc, Xps, Xtp, Xsr, Xhi, Xwd, Xln, Xgc, Xpo, Xkd, Xmk, Xnu, Xfi, Xla, Xfo, Xac, Xhd, Xtl, Xmd, Xec, Xew, Xh1, Xh2)) : wpX_copy post (nI D, Xml, Xmn, Xal, Xpr, Xnc, Xps, Xtp, Xsr, Xhi, Xwd, Xln, Xgc, Xpo, Xkd, Xmk, Xnu, Xfi, Xla, Xfo, Xac, Xhd, Xtl, Xmd, Xec, Xew, Xh1, Xh2) (nI a) (nI b) := by
  unfold wpX_copy
  exact xw_isDoc_t hD ha (br_f (by decide) (xw_isDoc_t hD hb (br_f (by decide) (xw_isPresent_f (by omega) hp (br_t rfl k)))))
theorem xw_copy_s {post : Int32 → SX → Prop} (hD : D ≤ 8) (ha : a < D) (hp : bt Xpr a = true) (k : post (Xln a) (nI D, Xml, Xmn, Xal, Xpr, Xnc, Xps, Xtp, Xsr, Xhi, Xwd, Xln, Xgc, Xpo, Xkd, Xmk, Xnu, Xfi, Xla, Xfo, Xac, Xhd, Xtl, Xmd, Xec, Xew, Xh1, Xh2)) : wpX_copy post (nI D, Xml, Xmn, Xal, Xpr, Xnc, Xps, Xtp, Xsr, Xhi, Xwd, Xln, Xgc, Xpo, Xkd, Xmk, Xnu, Xfi, Xla, Xfo, Xac, Xhd, Xtl, Xmd, Xec, Xew, Xh1, Xh2) (nI a) (nI a) := by
  unfold wpX_copy
  refine xw_isDoc_t hD ha (br_f (by decide) (xw_isDoc_t hD ha (br_f (by decide) (xw_isPresent_t (by omega) hp (br_f (by decide) (br_t rfl ⟨vp_in_nI (by omega) (by omega), ?_⟩))))))
  rw [nI_clamp (by omega)]
  exact k
theorem xw_cpl {post : Int32 → SX → Prop} {W : Nat → Int32} (ha : a < 8) (hb : b < 8) (hab : ¬ a = b) (hL : L a ≤ 12) (el : Xln a = nI (L a))
    (k : wpX_countGrams (fun u => match u with | (Xdc, Xml, Xmn, Xal, Xpr, Xnc, Xps, Xtp, Xsr, Xhi, Xwd, Xln, Xgc, Xpo, Xkd, Xmk, Xnu, Xfi, Xla, Xfo, Xac, Xhd, Xtl, Xmd, Xec, Xew, Xh1, Xh2) => ∀ f : Int32, f = Xpr ||| ((1 : Int32) <<< (nI b &&& 31)) → (vp_in (nI b) 8 ∧ post (Xln (nI b).toNatClampNeg) (Xdc, Xml, Xmn, Xal, f, Xnc, Xps, Xtp, Xsr, Xhi, Xwd, Xln, Xgc, Xpo, Xkd, Xmk, Xnu, Xfi, Xla, Xfo, Xac, Xhd, Xtl, Xmd, Xec, Xew, Xh1, Xh2))) (Xdc, Xml, Xmn, Xal, Xpr, Xnc, Xps, Xtp, Xsr, Xhi, rl_cp W a b (L a), upd Xln b (nI (L a)), Xgc, Xpo, Xkd, Xmk, Xnu, Xfi, Xla, Xfo, Xac, Xhd, Xtl, Xmd, Xec, Xew, Xh1, Xh2) (nI b) 0 (nI (L a) - 3) 1) :
    ∀ (n i : Nat), i ≤ L a → L a - i < n → wX_copy_41 post (nI a) (nI b) Xdc Xml Xmn Xal Xpr Xnc Xps Xtp Xsr Xhi n (nI i) (rl_cp W a b i) Xln Xgc Xpo Xkd Xmk Xnu Xfi Xla Xfo Xac Xhd Xtl Xmd Xec Xew Xh1 Xh2 := by
  intro n
  have va : vp_in (nI a) 8 := vp_in_nI (by omega) (by omega)
  have vb : vp_in (nI b) 8 := vp_in_nI (by omega) (by omega)
  have ia : (nI a).toNatClampNeg = a := nI_clamp (by omega)
  have ib : (nI b).toNatClampNeg = b := nI_clamp (by omega)
  induction n with
  | zero => intro i _ h; exact absurd h (by omega)
  | succ n ih =>
    intro i hi hn
    unfold wX_copy_41
    refine ⟨va, ?_⟩
    rw [ia, el]
    by_cases e : i = L a
    · subst e
      refine br_t (nI_le (Nat.le_refl _) (by omega)) ⟨va, vb, ?_⟩
      refine nm_r (e' := upd Xln b (nI (L a))) (by rw [ib]) ⟨vb, ?_⟩
      rw [ib, pk_us]
      rw [ib] at k
      exact k
    · refine br_f (nI_ge (by omega) (by omega)) ⟨?_, ?_, ?_⟩
      · rw [ax_m12, nI_add]; exact vp_in_nI (by omega) (by omega)
      · rw [ax_m12, nI_add]; exact vp_in_nI (by omega) (by omega)
      · refine nm_r (e' := rl_cp W a b (i + 1)) ?_ (nm_r (nI_1 i) (ih (i + 1) (by omega) (by omega)))
        rw [ax_m12, ax_m12, nI_add, nI_add, nI_clamp (by omega), nI_clamp (by omega)]
        rfl
theorem xw_copy_t {post : Int32 → SX → Prop} (hD : D ≤ 8) (ha : a < D) (hb : b < D) (hab : ¬ a = b) (hA : AL ≤ 6) (hp : bt Xpr a = true) (hL8 : ∀ d, d < 8 → L d ≤ 12) (el : ∀ d, d < 8 → Xln d = nI (L d)) (hw : rl_W Xwd AL) (hI : ag_IG D Xgc Xpo (rl_C L) (rl_f Xwd))
    (k : ∀ gc po, ag_IG D gc po (rl_C (rl_z L b (L a))) (rl_f (rl_cp Xwd a b (L a))) → post (nI (L a)) (nI D, Xml, Xmn, Xal, Xpr ||| ((1 : Int32) <<< (nI b &&& 31)), Xnc, Xps, Xtp, Xsr, Xhi, rl_cp Xwd a b (L a), upd Xln b (nI (L a)), gc, po, Xkd, Xmk, Xnu, Xfi, Xla, Xfo, Xac, Xhd, Xtl, Xmd, Xec, Xew, Xh1, Xh2)) : wpX_copy post (nI D, Xml, Xmn, Xal, Xpr, Xnc, Xps, Xtp, Xsr, Xhi, Xwd, Xln, Xgc, Xpo, Xkd, Xmk, Xnu, Xfi, Xla, Xfo, Xac, Xhd, Xtl, Xmd, Xec, Xew, Xh1, Xh2) (nI a) (nI b) := by
  have hLa := hL8 a (by omega)
  have vb : vp_in (nI b) 8 := vp_in_nI (by omega) (by omega)
  have ib : (nI b).toNatClampNeg = b := nI_clamp (by omega)
  unfold wpX_copy
  refine xw_isDoc_t hD ha (br_f (by decide) (xw_isDoc_t hD hb (br_f (by decide) (xw_isPresent_t (by omega) hp (br_f (by decide) (br_f ?_ ?_))))))
  · rw [nI_eq (by omega) (by omega)]; exact hab
  · refine xw_clear hD hb (hL8 b (by omega)) (el b (by omega)) hw hA hI ?_
    intro gc po hI1
    have ela : upd Xln b 0 a = nI (L a) := by rw [pk_un hab]; exact el a (by omega)
    refine ⟨L a + 1, xw_cpl (Xdc := nI D) (Xln := upd Xln b 0) (Xgc := gc) (Xpo := po) (W := Xwd) (by omega) (by omega) hab hLa ela ?_ (L a + 1) 0 (by omega) (by omega)⟩
    have hw' := rl_cp_W (a := a) (b := b) hw (L a)
    have hI2 : ag_IG D gc po (rl_C (rl_z L b 0)) (rl_f (rl_cp Xwd a b (L a))) := by
      refine ag_IG_congr hI1 (fun _ _ _ _ => rfl) ?_
      intro d' j hd' hj h
      have h := of_decide_eq_true h
      by_cases e : d' = b
      · rw [e, rl_zs] at h; omega
      · rw [rl_zn e] at h
        have h8 := hL8 d' hd'
        refine rl_f_congr (fun q h1 h2 => rl_cp_o (fun q' hq' => ?_))
        omega
    have elb : upd (upd Xln b 0) b (nI (L a)) b = nI (L a) := pk_us
    refine xw_cGi (Xwd := rl_cp Xwd a b (L a)) (Xln := upd (upd Xln b 0) b (nI (L a))) (Xgc := gc) (Xpo := po) (lo := 0) (hi := (L a : Int) - 3) rfl (iz_sub (L a) 3) hD hb hLa elb hw' hA (by omega) (by omega) (by omega) (by omega) hI2 ?_ ?_
    · intro j _ _ _
      unfold rl_C
      rw [rl_zs]
      exact decide_eq_false (by omega)
    · intro gc' po' hI3
      refine nm_e ⟨vb, ?_⟩
      rw [ib, pk_us, ax_uu]
      refine k gc' po' (ag_IG_congr hI3 ?_ (fun _ _ _ _ _ => rfl))
      intro d' j hd' hj
      unfold ag_rng rl_C
      by_cases e : d' = b
      · rw [e, rl_zs, rl_zs]
        by_cases h : j + 2 < L a
        · rw [if_pos (by omega), decide_eq_true h]
        · rw [if_neg (by omega), decide_eq_false h, decide_eq_false (by omega)]
      · rw [if_neg (fun y => e y.1), rl_zn e, rl_zn e]
theorem xw_erase_f1 {post : Int32 → SX → Prop} (hD : D ≤ 8) {p : Int32} (hp : ¬ ∃ d, d < D ∧ p = nI d) (k : post (-1) (nI D, Xml, Xmn, Xal, Xpr, Xnc, Xps, Xtp, Xsr, Xhi, Xwd, Xln, Xgc, Xpo, Xkd, Xmk, Xnu, Xfi, Xla, Xfo, Xac, Xhd, Xtl, Xmd, Xec, Xew, Xh1, Xh2)) : wpX_erase post (nI D, Xml, Xmn, Xal, Xpr, Xnc, Xps, Xtp, Xsr, Xhi, Xwd, Xln, Xgc, Xpo, Xkd, Xmk, Xnu, Xfi, Xla, Xfo, Xac, Xhd, Xtl, Xmd, Xec, Xew, Xh1, Xh2) p := by
  unfold wpX_erase
  exact xw_isDoc_f hD hp (br_t rfl k)
theorem xw_erase_f2 {post : Int32 → SX → Prop} (hD : D ≤ 8) (hd : d < D) (hp : bt Xpr d = false) (k : post (-5) (nI D, Xml, Xmn, Xal, Xpr, Xnc, Xps, Xtp, Xsr, Xhi, Xwd, Xln, Xgc, Xpo, Xkd, Xmk, Xnu, Xfi, Xla, Xfo, Xac, Xhd, Xtl, Xmd, Xec, Xew, Xh1, Xh2)) : wpX_erase post (nI D, Xml, Xmn, Xal, Xpr, Xnc, Xps, Xtp, Xsr, Xhi, Xwd, Xln, Xgc, Xpo, Xkd, Xmk, Xnu, Xfi, Xla, Xfo, Xac, Xhd, Xtl, Xmd, Xec, Xew, Xh1, Xh2) (nI d) := by
  unfold wpX_erase
  exact xw_isDoc_t hD hd (br_f (by decide) (xw_isPresent_f (by omega) hp (br_t rfl k)))
theorem xw_erase_t {post : Int32 → SX → Prop} (hD : D ≤ 8) (hd : d < D) (hp : bt Xpr d = true) (hL : L d ≤ 12) (el : Xln d = nI (L d)) (hw : rl_W Xwd AL) (hA : AL ≤ 6) (hI : ag_IG D Xgc Xpo (rl_C L) (rl_f Xwd))
    (k : ∀ gc po, ag_IG D gc po (rl_C (rl_z L d 0)) (rl_f Xwd) → post (nI (L d)) (nI D, Xml, Xmn, Xal, Xpr &&& (((1 : Int32) <<< (nI d &&& 31)) ^^^ (-1)), Xnc, Xps, Xtp, Xsr, Xhi, Xwd, upd Xln d 0, gc, po, Xkd, Xmk, Xnu, Xfi, Xla, Xfo, Xac, Xhd, Xtl, Xmd, Xec, Xew, Xh1, Xh2)) : wpX_erase post (nI D, Xml, Xmn, Xal, Xpr, Xnc, Xps, Xtp, Xsr, Xhi, Xwd, Xln, Xgc, Xpo, Xkd, Xmk, Xnu, Xfi, Xla, Xfo, Xac, Xhd, Xtl, Xmd, Xec, Xew, Xh1, Xh2) (nI d) := by
  unfold wpX_erase
  refine xw_isDoc_t hD hd (br_f (by decide) (xw_isPresent_t (by omega) hp (br_f (by decide) ⟨vp_in_nI (by omega) (by omega), ?_⟩)))
  refine nm_r (e' := nI (L d)) (by rw [nI_clamp (by omega), el]) ?_
  exact xw_clear hD hd hL el hw hA hI (fun gc po hI' => nm_e (k gc po hI'))
theorem xw_length_f1 {post : Int32 → Prop} (hD : D ≤ 8) {p : Int32} (hp : ¬ ∃ d, d < D ∧ p = nI d) (k : post (-1)) : wpX_length post (nI D, Xml, Xmn, Xal, Xpr, Xnc, Xps, Xtp, Xsr, Xhi, Xwd, Xln, Xgc, Xpo, Xkd, Xmk, Xnu, Xfi, Xla, Xfo, Xac, Xhd, Xtl, Xmd, Xec, Xew, Xh1, Xh2) p := by
  unfold wpX_length
  exact xw_isDoc_f hD hp (br_t rfl k)
theorem xw_length_f2 {post : Int32 → Prop} (hD : D ≤ 8) (hd : d < D) (hp : bt Xpr d = false) (k : post (-5)) : wpX_length post (nI D, Xml, Xmn, Xal, Xpr, Xnc, Xps, Xtp, Xsr, Xhi, Xwd, Xln, Xgc, Xpo, Xkd, Xmk, Xnu, Xfi, Xla, Xfo, Xac, Xhd, Xtl, Xmd, Xec, Xew, Xh1, Xh2) (nI d) := by
  unfold wpX_length
  exact xw_isDoc_t hD hd (br_f (by decide) (xw_isPresent_f (by omega) hp (br_t rfl k)))
theorem xw_length_t {post : Int32 → Prop} (hD : D ≤ 8) (hd : d < D) (hp : bt Xpr d = true) (k : post (Xln d)) : wpX_length post (nI D, Xml, Xmn, Xal, Xpr, Xnc, Xps, Xtp, Xsr, Xhi, Xwd, Xln, Xgc, Xpo, Xkd, Xmk, Xnu, Xfi, Xla, Xfo, Xac, Xhd, Xtl, Xmd, Xec, Xew, Xh1, Xh2) (nI d) := by
  unfold wpX_length
  refine xw_isDoc_t hD hd (br_f (by decide) (xw_isPresent_t (by omega) hp (br_f (by decide) ⟨vp_in_nI (by omega) (by omega), ?_⟩)))
  rw [nI_clamp (by omega)]; exact k
theorem xw_letterAt_f1 {post : Int32 → Prop} (hD : D ≤ 8) {p q : Int32} (hp : ¬ ∃ d, d < D ∧ p = nI d) (k : post (-1)) : wpX_letterAt post (nI D, Xml, Xmn, Xal, Xpr, Xnc, Xps, Xtp, Xsr, Xhi, Xwd, Xln, Xgc, Xpo, Xkd, Xmk, Xnu, Xfi, Xla, Xfo, Xac, Xhd, Xtl, Xmd, Xec, Xew, Xh1, Xh2) p q := by
  unfold wpX_letterAt
  exact xw_isDoc_f hD hp (br_t rfl k)
theorem xw_letterAt_f2 {post : Int32 → Prop} (hD : D ≤ 8) (hd : d < D) {q : Int32} (hp : bt Xpr d = false) (k : post (-5)) : wpX_letterAt post (nI D, Xml, Xmn, Xal, Xpr, Xnc, Xps, Xtp, Xsr, Xhi, Xwd, Xln, Xgc, Xpo, Xkd, Xmk, Xnu, Xfi, Xla, Xfo, Xac, Xhd, Xtl, Xmd, Xec, Xew, Xh1, Xh2) (nI d) q := by
  unfold wpX_letterAt
  exact xw_isDoc_t hD hd (br_f (by decide) (xw_isPresent_f (by omega) hp (br_t rfl k)))
theorem xw_letterAt_f3 {post : Int32 → Prop} (hD : D ≤ 8) (hd : d < D) {q : Int32} (hp : bt Xpr d = true) (hL : L d ≤ 12) (el : Xln d = nI (L d)) (hn : ¬ ∃ p, p < L d ∧ q = nI p) (k : post (-1)) : wpX_letterAt post (nI D, Xml, Xmn, Xal, Xpr, Xnc, Xps, Xtp, Xsr, Xhi, Xwd, Xln, Xgc, Xpo, Xkd, Xmk, Xnu, Xfi, Xla, Xfo, Xac, Xhd, Xtl, Xmd, Xec, Xew, Xh1, Xh2) (nI d) q := by
  unfold wpX_letterAt
  refine xw_isDoc_t hD hd (br_f (by decide) (xw_isPresent_t (by omega) hp (br_f (by decide) ?_)))
  refine br_c (fun _ => k) (fun h0 => ⟨vp_in_nI (by omega) (by omega), br_f ?_ k⟩)
  rw [nI_clamp (by omega), el]
  intro h
  rcases pk_ix q (n := L d) (by omega) with z | z | z
  · exact h0 z
  · exact Int32.not_lt.mpr z h
  · exact hn z
theorem xw_letterAt_t {post : Int32 → Prop} (hD : D ≤ 8) (hd : d < D) {p : Nat} (hp : bt Xpr d = true) (hL : L d ≤ 12) (el : Xln d = nI (L d)) (hpl : p < L d) (k : post (Xwd (d * 12 + p))) : wpX_letterAt post (nI D, Xml, Xmn, Xal, Xpr, Xnc, Xps, Xtp, Xsr, Xhi, Xwd, Xln, Xgc, Xpo, Xkd, Xmk, Xnu, Xfi, Xla, Xfo, Xac, Xhd, Xtl, Xmd, Xec, Xew, Xh1, Xh2) (nI d) (nI p) := by
  unfold wpX_letterAt
  refine xw_isDoc_t hD hd (br_f (by decide) (xw_isPresent_t (by omega) hp (br_f (by decide) ?_)))
  refine br_f (nI_pos (by omega)) ⟨vp_in_nI (by omega) (by omega), br_t ?_ ⟨?_, ?_⟩⟩
  · rw [nI_clamp (by omega), el]; exact nI_lt hpl (by omega)
  · rw [ax_m12, nI_add]; exact vp_in_nI (by omega) (by omega)
  · rw [ax_m12, nI_add, nI_clamp (by omega)]; exact k
theorem xw_gram_f1 {post : Int32 → Prop} (hA : AL ≤ 6) {p q r : Int32} (hp : ¬ ∃ d, d < AL ∧ p = nI d) (k : post (-1)) : wpX_gram post (Xdc, Xml, Xmn, nI AL, Xpr, Xnc, Xps, Xtp, Xsr, Xhi, Xwd, Xln, Xgc, Xpo, Xkd, Xmk, Xnu, Xfi, Xla, Xfo, Xac, Xhd, Xtl, Xmd, Xec, Xew, Xh1, Xh2) p q r := by
  unfold wpX_gram
  exact xw_isLetter_f (by omega) hp (br_t rfl k)
theorem xw_gram_f2 {post : Int32 → Prop} (hA : AL ≤ 6) (ha : a < AL) {q r : Int32} (hp : ¬ ∃ d, d < AL ∧ q = nI d) (k : post (-1)) : wpX_gram post (Xdc, Xml, Xmn, nI AL, Xpr, Xnc, Xps, Xtp, Xsr, Xhi, Xwd, Xln, Xgc, Xpo, Xkd, Xmk, Xnu, Xfi, Xla, Xfo, Xac, Xhd, Xtl, Xmd, Xec, Xew, Xh1, Xh2) (nI a) q r := by
  unfold wpX_gram
  exact xw_isLetter_t (by omega) ha (br_f (by decide) (xw_isLetter_f (by omega) hp (br_t rfl k)))
theorem xw_gram_f3 {post : Int32 → Prop} (hA : AL ≤ 6) (ha : a < AL) (hb : b < AL) {r : Int32} (hp : ¬ ∃ d, d < AL ∧ r = nI d) (k : post (-1)) : wpX_gram post (Xdc, Xml, Xmn, nI AL, Xpr, Xnc, Xps, Xtp, Xsr, Xhi, Xwd, Xln, Xgc, Xpo, Xkd, Xmk, Xnu, Xfi, Xla, Xfo, Xac, Xhd, Xtl, Xmd, Xec, Xew, Xh1, Xh2) (nI a) (nI b) r := by
  unfold wpX_gram
  exact xw_isLetter_t (by omega) ha (br_f (by decide) (xw_isLetter_t (by omega) hb (br_f (by decide) (xw_isLetter_f (by omega) hp (br_t rfl k)))))
theorem xw_gram_t {post : Int32 → Prop} (hA : AL ≤ 6) (ha : a < AL) (hb : b < AL) (hc : c < AL) (k : post (Xpo (a * 36 + b * 6 + c))) : wpX_gram post (Xdc, Xml, Xmn, nI AL, Xpr, Xnc, Xps, Xtp, Xsr, Xhi, Xwd, Xln, Xgc, Xpo, Xkd, Xmk, Xnu, Xfi, Xla, Xfo, Xac, Xhd, Xtl, Xmd, Xec, Xew, Xh1, Xh2) (nI a) (nI b) (nI c) := by
  unfold wpX_gram
  refine xw_isLetter_t (by omega) ha (br_f (by decide) (xw_isLetter_t (by omega) hb (br_f (by decide) (xw_isLetter_t (by omega) hc (br_f (by decide) ⟨?_, ?_⟩)))))
  · rw [ax_m36, ax_m6, nI_add, nI_add]; exact vp_in_nI (by omega) (by omega)
  · rw [ax_m36, ax_m6, nI_add, nI_add, nI_clamp (by omega)]; exact k
end
end
section
/-! ===== Y: the document methods ===== -/
theorem ax_b1 : vp_nar .boolean 1 = 1 := rfl
theorem ax_b0 : vp_nar .boolean 0 = 0 := rfl
section
variable {Ydc Yml Ymn Yal Ync Ysr : Int32} {Ypr Ysz Ywd Ykd Yar Yhi Yh1 Yh2 Yrl : Nat → Int32}
variable {D d AL c ML a b m : Nat}
theorem yw_noSlot_t {post : Int32 → Prop} (hD : D ≤ 8) (hd : d < D) (h : post 0) : wpY_noSlot post (nI D, Yml, Ymn, Yal, Ync, Ysr, Ypr, Ysz, Ywd, Ykd, Yar, Yhi, Yh1, Yh2, Yrl) (nI d) := by
  unfold wpY_noSlot
  exact br_f (nI_pos (by omega)) (br_t (nI_lt hd (by omega)) h)
theorem yw_noSlot_f {post : Int32 → Prop} (hD : D ≤ 8) {p : Int32} (hp : ¬ ∃ d, d < D ∧ p = nI d) (h : post 1) : wpY_noSlot post (nI D, Yml, Ymn, Yal, Ync, Ysr, Ypr, Ysz, Ywd, Ykd, Yar, Yhi, Yh1, Yh2, Yrl) p := by
  unfold wpY_noSlot
  refine br_c (fun _ => h) (fun h0 => br_f ?_ h)
  intro z
  rcases pk_ix p (n := D) (by omega) with y | y | y
  · exact h0 y
  · exact Int32.not_lt.mpr y z
  · exact hp y
theorem yw_noLetter_t {post : Int32 → Prop} (hD : D ≤ 8) (hd : d < D) (h : post 0) : wpY_noLetter post (Ydc, Yml, Ymn, nI D, Ync, Ysr, Ypr, Ysz, Ywd, Ykd, Yar, Yhi, Yh1, Yh2, Yrl) (nI d) := by
  unfold wpY_noLetter
  exact br_f (nI_pos (by omega)) (br_t (nI_lt hd (by omega)) h)
theorem yw_noLetter_f {post : Int32 → Prop} (hD : D ≤ 8) {p : Int32} (hp : ¬ ∃ d, d < D ∧ p = nI d) (h : post 1) : wpY_noLetter post (Ydc, Yml, Ymn, nI D, Ync, Ysr, Ypr, Ysz, Ywd, Ykd, Yar, Yhi, Yh1, Yh2, Yrl) p := by
  unfold wpY_noLetter
  refine br_c (fun _ => h) (fun h0 => br_f ?_ h)
  intro z
  rcases pk_ix p (n := D) (by omega) with y | y | y
  · exact h0 y
  · exact Int32.not_lt.mpr y z
  · exact hp y
theorem yw_open_f {post : Int32 → SY → Prop} (hD : D ≤ 8) {p : Int32} (hp : ¬ ∃ d, d < D ∧ p = nI d) (k : post (-1) (nI D, Yml, Ymn, Yal, Ync, Ysr, Ypr, Ysz, Ywd, Ykd, Yar, Yhi, Yh1, Yh2, Yrl)) : wpY_open post (nI D, Yml, Ymn, Yal, Ync, Ysr, Ypr, Ysz, Ywd, Ykd, Yar, Yhi, Yh1, Yh2, Yrl) p := by
  unfold wpY_open
  exact yw_noSlot_f hD hp (br_f (by decide) k)
theorem yw_open_t {post : Int32 → SY → Prop} (hD : D ≤ 8) (hd : d < D) (k : post 0 (nI D, Yml, Ymn, Yal, Ync, Ysr, upd Ypr d 1, upd Ysz d 0, Ywd, Ykd, Yar, Yhi, Yh1, Yh2, Yrl)) : wpY_open post (nI D, Yml, Ymn, Yal, Ync, Ysr, Ypr, Ysz, Ywd, Ykd, Yar, Yhi, Yh1, Yh2, Yrl) (nI d) := by
  have v8 : vp_in (nI d) 8 := vp_in_nI (by omega) (by omega)
  have ic : (nI d).toNatClampNeg = d := nI_clamp (by omega)
  unfold wpY_open
  refine yw_noSlot_t hD hd (br_t rfl ⟨v8, nm_r (e' := upd Ypr d 1) (by rw [ic, ax_b1]) ⟨v8, nm_r (e' := upd Ysz d 0) (by rw [ic]) k⟩⟩)
theorem yw_append_f1 {post : Int32 → SY → Prop} (hD : D ≤ 8) {p q : Int32} (hp : ¬ ∃ d, d < D ∧ p = nI d) (k : post (-1) (nI D, Yml, Ymn, Yal, Ync, Ysr, Ypr, Ysz, Ywd, Ykd, Yar, Yhi, Yh1, Yh2, Yrl)) : wpY_append post (nI D, Yml, Ymn, Yal, Ync, Ysr, Ypr, Ysz, Ywd, Ykd, Yar, Yhi, Yh1, Yh2, Yrl) p q := by
  unfold wpY_append
  exact yw_noSlot_f hD hp (br_f (by decide) k)
theorem yw_append_f2 {post : Int32 → SY → Prop} (hD : D ≤ 8) (hd : d < D) (hA : AL ≤ 6) {q : Int32} (hp : ¬ ∃ d, d < AL ∧ q = nI d) (k : post (-1) (nI D, Yml, Ymn, nI AL, Ync, Ysr, Ypr, Ysz, Ywd, Ykd, Yar, Yhi, Yh1, Yh2, Yrl)) : wpY_append post (nI D, Yml, Ymn, nI AL, Ync, Ysr, Ypr, Ysz, Ywd, Ykd, Yar, Yhi, Yh1, Yh2, Yrl) (nI d) q := by
  unfold wpY_append
  exact yw_noSlot_t hD hd (br_t rfl (yw_noLetter_f (by omega) hp (br_f (by decide) k)))
theorem yw_append_f3 {post : Int32 → SY → Prop} (hD : D ≤ 8) (hd : d < D) (hA : AL ≤ 6) (hc : c < AL) (hp : Ypr d = 0) (k : post (-5) (nI D, Yml, Ymn, nI AL, Ync, Ysr, Ypr, Ysz, Ywd, Ykd, Yar, Yhi, Yh1, Yh2, Yrl)) : wpY_append post (nI D, Yml, Ymn, nI AL, Ync, Ysr, Ypr, Ysz, Ywd, Ykd, Yar, Yhi, Yh1, Yh2, Yrl) (nI d) (nI c) := by
  unfold wpY_append
  refine yw_noSlot_t hD hd (br_t rfl (yw_noLetter_t (by omega) hc (br_t rfl ⟨vp_in_nI (by omega) (by omega), br_t ?_ k⟩)))
  rw [nI_clamp (by omega)]; exact hp
theorem yw_append_f4 {post : Int32 → SY → Prop} (hD : D ≤ 8) (hd : d < D) (hA : AL ≤ 6) (hc : c < AL) (hp : ¬ Ypr d = 0) (hM : ML ≤ 12) (hL : ML ≤ m) (hL' : m ≤ 12) (el : Ysz d = nI m) (k : post (-2) (nI D, nI ML, Ymn, nI AL, Ync, Ysr, Ypr, Ysz, Ywd, Ykd, Yar, Yhi, Yh1, Yh2, Yrl)) : wpY_append post (nI D, nI ML, Ymn, nI AL, Ync, Ysr, Ypr, Ysz, Ywd, Ykd, Yar, Yhi, Yh1, Yh2, Yrl) (nI d) (nI c) := by
  have v8 : vp_in (nI d) 8 := vp_in_nI (by omega) (by omega)
  have ic : (nI d).toNatClampNeg = d := nI_clamp (by omega)
  unfold wpY_append
  refine yw_noSlot_t hD hd (br_t rfl (yw_noLetter_t (by omega) hc (br_t rfl ⟨v8, br_f ?_ ⟨v8, br_f ?_ k⟩⟩)))
  · rw [ic]; exact hp
  · rw [ic, el]; exact nI_nlt hL (by omega)
theorem yw_append_t {post : Int32 → SY → Prop} (hD : D ≤ 8) (hd : d < D) (hA : AL ≤ 6) (hc : c < AL) (hp : ¬ Ypr d = 0) (hM : ML ≤ 12) (hL : m < ML) (el : Ysz d = nI m) (k : post (nI (m + 1)) (nI D, nI ML, Ymn, nI AL, Ync, Ysr, Ypr, upd Ysz d (nI (m + 1)), upd Ywd (d * 12 + m) (nI c), Ykd, Yar, Yhi, Yh1, Yh2, Yrl)) : wpY_append post (nI D, nI ML, Ymn, nI AL, Ync, Ysr, Ypr, Ysz, Ywd, Ykd, Yar, Yhi, Yh1, Yh2, Yrl) (nI d) (nI c) := by
  have v8 : vp_in (nI d) 8 := vp_in_nI (by omega) (by omega)
  have ic : (nI d).toNatClampNeg = d := nI_clamp (by omega)
  unfold wpY_append
  refine yw_noSlot_t hD hd (br_t rfl (yw_noLetter_t (by omega) hc (br_t rfl ⟨v8, br_f ?_ ⟨v8, br_t ?_ ⟨v8, ?_, ?_⟩⟩⟩)))
  · rw [ic]; exact hp
  · rw [ic, el]; exact nI_lt hL (by omega)
  · rw [ic, el, ax_m12, nI_add]; exact vp_in_nI (by omega) (by omega)
  · refine nm_r (e' := upd Ywd (d * 12 + m) (nI c)) (by rw [ic, el, ax_m12, nI_add, nI_clamp (by omega)]) ?_
    refine ⟨v8, v8, nm_r (e' := upd Ysz d (nI (m + 1))) (by rw [ic, el, nI_1]) ⟨v8, ?_⟩⟩
    rw [ic, pk_us]; exact k
theorem yw_length_f1 {post : Int32 → Prop} (hD : D ≤ 8) {p : Int32} (hp : ¬ ∃ d, d < D ∧ p = nI d) (k : post (-1)) : wpY_length post (nI D, Yml, Ymn, Yal, Ync, Ysr, Ypr, Ysz, Ywd, Ykd, Yar, Yhi, Yh1, Yh2, Yrl) p := by
  unfold wpY_length
  exact yw_noSlot_f hD hp (br_f (by decide) k)
theorem yw_length_f2 {post : Int32 → Prop} (hD : D ≤ 8) (hd : d < D) (hp : Ypr d = 0) (k : post (-5)) : wpY_length post (nI D, Yml, Ymn, Yal, Ync, Ysr, Ypr, Ysz, Ywd, Ykd, Yar, Yhi, Yh1, Yh2, Yrl) (nI d) := by
  unfold wpY_length
  refine yw_noSlot_t hD hd (br_t rfl ⟨vp_in_nI (by omega) (by omega), br_t ?_ k⟩)
  rw [nI_clamp (by omega)]; exact hp
theorem yw_length_t {post : Int32 → Prop} (hD : D ≤ 8) (hd : d < D) (hp : ¬ Ypr d = 0) (k : post (Ysz d)) : wpY_length post (nI D, Yml, Ymn, Yal, Ync, Ysr, Ypr, Ysz, Ywd, Ykd, Yar, Yhi, Yh1, Yh2, Yrl) (nI d) := by
  have v8 : vp_in (nI d) 8 := vp_in_nI (by omega) (by omega)
  have ic : (nI d).toNatClampNeg = d := nI_clamp (by omega)
  unfold wpY_length
  refine yw_noSlot_t hD hd (br_t rfl ⟨v8, br_f ?_ ⟨v8, ?_⟩⟩)
  · rw [ic]; exact hp
  · rw [ic]; exact k
theorem yw_letterAt_f1 {post : Int32 → Prop} (hD : D ≤ 8) {p q : Int32} (hp : ¬ ∃ d, d < D ∧ p = nI d) (k : post (-1)) : wpY_letterAt post (nI D, Yml, Ymn, Yal, Ync, Ysr, Ypr, Ysz, Ywd, Ykd, Yar, Yhi, Yh1, Yh2, Yrl) p q := by
  unfold wpY_letterAt
  exact yw_length_f1 hD hp (br_f (by decide) k)
theorem yw_letterAt_f2 {post : Int32 → Prop} (hD : D ≤ 8) (hd : d < D) {q : Int32} (hp : Ypr d = 0) (k : post (-5)) : wpY_letterAt post (nI D, Yml, Ymn, Yal, Ync, Ysr, Ypr, Ysz, Ywd, Ykd, Yar, Yhi, Yh1, Yh2, Yrl) (nI d) q := by
  unfold wpY_letterAt
  exact yw_length_f2 hD hd hp (br_f (by decide) k)
theorem yw_letterAt_f3 {post : Int32 → Prop} (hD : D ≤ 8) (hd : d < D) {q : Int32} (hp : ¬ Ypr d = 0) (hL : m ≤ 12) (el : Ysz d = nI m) (hn : ¬ ∃ p, p < m ∧ q = nI p) (k : post (-1)) : wpY_letterAt post (nI D, Yml, Ymn, Yal, Ync, Ysr, Ypr, Ysz, Ywd, Ykd, Yar, Yhi, Yh1, Yh2, Yrl) (nI d) q := by
  unfold wpY_letterAt
  refine yw_length_t hD hd hp ?_
  rw [el]
  refine br_t (nI_pos' (by omega)) (br_c (fun _ => k) (fun h0 => br_f ?_ k))
  intro h
  rcases pk_ix q (n := m) (by omega) with z | z | z
  · exact h0 z
  · exact Int32.not_lt.mpr z h
  · exact hn z
theorem yw_letterAt_t {post : Int32 → Prop} (hD : D ≤ 8) (hd : d < D) {p : Nat} (hp : ¬ Ypr d = 0) (hL : m ≤ 12) (el : Ysz d = nI m) (hpl : p < m) (k : post (Ywd (d * 12 + p))) : wpY_letterAt post (nI D, Yml, Ymn, Yal, Ync, Ysr, Ypr, Ysz, Ywd, Ykd, Yar, Yhi, Yh1, Yh2, Yrl) (nI d) (nI p) := by
  unfold wpY_letterAt
  refine yw_length_t hD hd hp ?_
  rw [el]
  refine br_t (nI_pos' (by omega)) (br_f (nI_pos (by omega)) (br_t (nI_lt hpl (by omega)) ⟨?_, ?_⟩))
  · rw [ax_m12, nI_add]; exact vp_in_nI (by omega) (by omega)
  · rw [ax_m12, nI_add, nI_clamp (by omega)]; exact k
theorem yw_change_f1 {post : Int32 → SY → Prop} (hD : D ≤ 8) {p p1 q : Int32} (hp : ¬ ∃ d, d < D ∧ p = nI d) (k : post (-1) (nI D, Yml, Ymn, Yal, Ync, Ysr, Ypr, Ysz, Ywd, Ykd, Yar, Yhi, Yh1, Yh2, Yrl)) : wpY_change post (nI D, Yml, Ymn, Yal, Ync, Ysr, Ypr, Ysz, Ywd, Ykd, Yar, Yhi, Yh1, Yh2, Yrl) p p1 q := by
  unfold wpY_change
  exact yw_noSlot_f hD hp (br_f (by decide) k)
theorem yw_change_f2 {post : Int32 → SY → Prop} (hD : D ≤ 8) (hd : d < D) (hA : AL ≤ 6) {p1 q : Int32} (hp : ¬ ∃ d, d < AL ∧ q = nI d) (k : post (-1) (nI D, Yml, Ymn, nI AL, Ync, Ysr, Ypr, Ysz, Ywd, Ykd, Yar, Yhi, Yh1, Yh2, Yrl)) : wpY_change post (nI D, Yml, Ymn, nI AL, Ync, Ysr, Ypr, Ysz, Ywd, Ykd, Yar, Yhi, Yh1, Yh2, Yrl) (nI d) p1 q := by
  unfold wpY_change
  exact yw_noSlot_t hD hd (br_t rfl (yw_noLetter_f (by omega) hp (br_f (by decide) k)))
theorem yw_change_f3 {post : Int32 → SY → Prop} (hD : D ≤ 8) (hd : d < D) (hA : AL ≤ 6) (hc : c < AL) {p1 : Int32} (hp : Ypr d = 0) (k : post (-5) (nI D, Yml, Ymn, nI AL, Ync, Ysr, Ypr, Ysz, Ywd, Ykd, Yar, Yhi, Yh1, Yh2, Yrl)) : wpY_change post (nI D, Yml, Ymn, nI AL, Ync, Ysr, Ypr, Ysz, Ywd, Ykd, Yar, Yhi, Yh1, Yh2, Yrl) (nI d) p1 (nI c) := by
  unfold wpY_change
  exact yw_noSlot_t hD hd (br_t rfl (yw_noLetter_t (by omega) hc (br_t rfl (yw_letterAt_f2 hD hd hp (br_t (by decide) k)))))
theorem yw_change_f4 {post : Int32 → SY → Prop} (hD : D ≤ 8) (hd : d < D) (hA : AL ≤ 6) (hc : c < AL) {p1 : Int32} (hp : ¬ Ypr d = 0) (hL : m ≤ 12) (el : Ysz d = nI m) (hn : ¬ ∃ p, p < m ∧ p1 = nI p) (k : post (-1) (nI D, Yml, Ymn, nI AL, Ync, Ysr, Ypr, Ysz, Ywd, Ykd, Yar, Yhi, Yh1, Yh2, Yrl)) : wpY_change post (nI D, Yml, Ymn, nI AL, Ync, Ysr, Ypr, Ysz, Ywd, Ykd, Yar, Yhi, Yh1, Yh2, Yrl) (nI d) p1 (nI c) := by
  unfold wpY_change
  exact yw_noSlot_t hD hd (br_t rfl (yw_noLetter_t (by omega) hc (br_t rfl (yw_letterAt_f3 hD hd hp hL el hn (br_t (by decide) k)))))
theorem yw_change_t {post : Int32 → SY → Prop} (hD : D ≤ 8) (hd : d < D) (hA : AL ≤ 6) (hc : c < AL) {p : Nat} (hp : ¬ Ypr d = 0) (hL : m ≤ 12) (el : Ysz d = nI m) (hw : rl_W Ywd AL) (hpl : p < m)
    (k : post (Ywd (d * 12 + p)) (nI D, Yml, Ymn, nI AL, Ync, Ysr, Ypr, Ysz, upd Ywd (d * 12 + p) (nI c), Ykd, Yar, Yhi, Yh1, Yh2, Yrl)) : wpY_change post (nI D, Yml, Ymn, nI AL, Ync, Ysr, Ypr, Ysz, Ywd, Ykd, Yar, Yhi, Yh1, Yh2, Yrl) (nI d) (nI p) (nI c) := by
  unfold wpY_change
  refine yw_noSlot_t hD hd (br_t rfl (yw_noLetter_t (by omega) hc (br_t rfl (yw_letterAt_t hD hd hp hL el hpl (br_f ?_ ⟨?_, ?_⟩)))))
  · rw [rl_e hw hA]
    exact nI_pos (by have := rl_lt hw hA d p; omega)
  · rw [ax_m12, nI_add]; exact vp_in_nI (by omega) (by omega)
  · refine nm_r (e' := upd Ywd (d * 12 + p) (nI c)) (by rw [ax_m12, nI_add, nI_clamp (by omega)]) k
theorem yw_copy_f1 {post : Int32 → SY → Prop} (hD : D ≤ 8) {p q : Int32} (hp : ¬ ∃ d, d < D ∧ p = nI d) (k : post (-1) (nI D, Yml, Ymn, Yal, Ync, Ysr, Ypr, Ysz, Ywd, Ykd, Yar, Yhi, Yh1, Yh2, Yrl)) : wpY_copy post (nI D, Yml, Ymn, Yal, Ync, Ysr, Ypr, Ysz, Ywd, Ykd, Yar, Yhi, Yh1, Yh2, Yrl) p q := by
  unfold wpY_copy
  exact yw_noSlot_f hD hp (br_f (by decide) k)
theorem yw_copy_f2 {post : Int32 → SY → Prop} (hD : D ≤ 8) (ha : a < D) {q : Int32} (hp : ¬ ∃ d, d < D ∧ q = nI d) (k : post (-1) (nI D, Yml, Ymn, Yal, Ync, Ysr, Ypr, Ysz, Ywd, Ykd, Yar, Yhi, Yh1, Yh2, Yrl)) : wpY_copy post (nI D, Yml, Ymn, Yal, Ync, Ysr, Ypr, Ysz, Ywd, Ykd, Yar, Yhi, Yh1, Yh2, Yrl) (nI a) q := by
  unfold wpY_copy
  exact yw_noSlot_t hD ha (br_t rfl (yw_noSlot_f hD hp (br_f (by decide) k)))
theorem yw_copy_f3 {post : Int32 → SY → Prop} (hD : D ≤ 8) (ha : a < D) (hb : b < D) (hp : Ypr a = 0) (k : post (-5) (nI D, Yml, Ymn, Yal, Ync, Ysr, Ypr, Ysz, Ywd, Ykd, Yar, Yhi, Yh1, Yh2, Yrl)) : wpY_copy post (nI D, Yml, Ymn, Yal, Ync, Ysr, Ypr, Ysz, Ywd, Ykd, Yar, Yhi, Yh1, Yh2, Yrl) (nI a) (nI b) := by
  unfold wpY_copy
  refine yw_noSlot_t hD ha (br_t rfl (yw_noSlot_t hD hb (br_t rfl ⟨vp_in_nI (by omega) (by omega), br_t ?_ k⟩)))
  rw [nI_clamp (by omega)]; exact hp
theorem yw_cpl {post : Int32 → SY → Prop} {W : Nat → Int32} (ha : a < 8) (hb : b < 8) (hL : m ≤ 12) (el : Ysz a = nI m)
    (k : post (nI m) (Ydc, Yml, Ymn, Yal, Ync, Ysr, upd Ypr b 1, upd Ysz b (nI m), rl_cp W a b m, Ykd, Yar, Yhi, Yh1, Yh2, Yrl)) :
    ∀ (n i : Nat), i ≤ m → m - i < n → wY_copy_32 post (nI a) (nI b) Ydc Yml Ymn Yal Ync Ysr n (nI i) Ypr Ysz (rl_cp W a b i) Ykd Yar Yhi Yh1 Yh2 Yrl := by
  intro n
  have va : vp_in (nI a) 8 := vp_in_nI (by omega) (by omega)
  have vb : vp_in (nI b) 8 := vp_in_nI (by omega) (by omega)
  have ia : (nI a).toNatClampNeg = a := nI_clamp (by omega)
  have ib : (nI b).toNatClampNeg = b := nI_clamp (by omega)
  induction n with
  | zero => intro i _ h; exact absurd h (by omega)
  | succ n ih =>
    intro i hi hn
    unfold wY_copy_32
    refine ⟨va, ?_⟩
    rw [ia, el]
    by_cases e : i = m
    · subst e
      refine br_t (nI_le (Nat.le_refl _) (by omega)) ⟨vb, ?_⟩
      refine nm_r (e' := upd Ypr b 1) (by rw [ib, ax_b1]) ⟨va, vb, ?_⟩
      refine nm_r (e' := upd Ysz b (nI i)) (by rw [ib]) ⟨vb, ?_⟩
      rw [ib, pk_us]
      exact k
    · refine br_f (nI_ge (by omega) (by omega)) ⟨?_, ?_, ?_⟩
      · rw [ax_m12, nI_add]; exact vp_in_nI (by omega) (by omega)
      · rw [ax_m12, nI_add]; exact vp_in_nI (by omega) (by omega)
      · refine nm_r (e' := rl_cp W a b (i + 1)) ?_ (nm_r (nI_1 i) (ih (i + 1) (by omega) (by omega)))
        rw [ax_m12, ax_m12, nI_add, nI_add, nI_clamp (by omega), nI_clamp (by omega)]
        rfl
theorem yw_copy_t {post : Int32 → SY → Prop} (hD : D ≤ 8) (ha : a < D) (hb : b < D) (hp : ¬ Ypr a = 0) (hL : m ≤ 12) (el : Ysz a = nI m)
    (k : post (nI m) (nI D, Yml, Ymn, Yal, Ync, Ysr, upd Ypr b 1, upd Ysz b (nI m), rl_cp Ywd a b m, Ykd, Yar, Yhi, Yh1, Yh2, Yrl)) : wpY_copy post (nI D, Yml, Ymn, Yal, Ync, Ysr, Ypr, Ysz, Ywd, Ykd, Yar, Yhi, Yh1, Yh2, Yrl) (nI a) (nI b) := by
  unfold wpY_copy
  refine yw_noSlot_t hD ha (br_t rfl (yw_noSlot_t hD hb (br_t rfl ⟨vp_in_nI (by omega) (by omega), br_f ?_ ?_⟩)))
  · rw [nI_clamp (by omega)]; exact hp
  · exact ⟨m + 1, yw_cpl (Ydc := nI D) (W := Ywd) (by omega) (by omega) hL el k (m + 1) 0 (by omega) (by omega)⟩
theorem yw_erase_f1 {post : Int32 → SY → Prop} (hD : D ≤ 8) {p : Int32} (hp : ¬ ∃ d, d < D ∧ p = nI d) (k : post (-1) (nI D, Yml, Ymn, Yal, Ync, Ysr, Ypr, Ysz, Ywd, Ykd, Yar, Yhi, Yh1, Yh2, Yrl)) : wpY_erase post (nI D, Yml, Ymn, Yal, Ync, Ysr, Ypr, Ysz, Ywd, Ykd, Yar, Yhi, Yh1, Yh2, Yrl) p := by
  unfold wpY_erase
  exact yw_length_f1 hD hp (br_t (by decide) k)
theorem yw_erase_f2 {post : Int32 → SY → Prop} (hD : D ≤ 8) (hd : d < D) (hp : Ypr d = 0) (k : post (-5) (nI D, Yml, Ymn, Yal, Ync, Ysr, Ypr, Ysz, Ywd, Ykd, Yar, Yhi, Yh1, Yh2, Yrl)) : wpY_erase post (nI D, Yml, Ymn, Yal, Ync, Ysr, Ypr, Ysz, Ywd, Ykd, Yar, Yhi, Yh1, Yh2, Yrl) (nI d) := by
  unfold wpY_erase
  exact yw_length_f2 hD hd hp (br_t (by decide) k)
theorem yw_erase_t {post : Int32 → SY → Prop} (hD : D ≤ 8) (hd : d < D) (hp : ¬ Ypr d = 0) (hL : m ≤ 12) (el : Ysz d = nI m) (k : post (nI m) (nI D, Yml, Ymn, Yal, Ync, Ysr, upd Ypr d 0, Ysz, Ywd, Ykd, Yar, Yhi, Yh1, Yh2, Yrl)) : wpY_erase post (nI D, Yml, Ymn, Yal, Ync, Ysr, Ypr, Ysz, Ywd, Ykd, Yar, Yhi, Yh1, Yh2, Yrl) (nI d) := by
  unfold wpY_erase
  refine yw_length_t hD hd hp ?_
  rw [el]
  refine br_f (nI_pos (by omega)) ⟨vp_in_nI (by omega) (by omega), nm_r (e' := upd Ypr d 0) (by rw [nI_clamp (by omega), ax_b0]) k⟩
theorem yw_gram_f1 {post : Int32 → Prop} (hA : AL ≤ 6) {p q r : Int32} (hp : ¬ ∃ d, d < AL ∧ p = nI d) (k : post (-1)) : wpY_gram post (Ydc, Yml, Ymn, nI AL, Ync, Ysr, Ypr, Ysz, Ywd, Ykd, Yar, Yhi, Yh1, Yh2, Yrl) p q r := by
  unfold wpY_gram
  exact yw_noLetter_f (by omega) hp (br_f (by decide) k)
theorem yw_gram_f2 {post : Int32 → Prop} (hA : AL ≤ 6) (ha : a < AL) {q r : Int32} (hp : ¬ ∃ d, d < AL ∧ q = nI d) (k : post (-1)) : wpY_gram post (Ydc, Yml, Ymn, nI AL, Ync, Ysr, Ypr, Ysz, Ywd, Ykd, Yar, Yhi, Yh1, Yh2, Yrl) (nI a) q r := by
  unfold wpY_gram
  exact yw_noLetter_t (by omega) ha (br_t rfl (yw_noLetter_f (by omega) hp (br_f (by decide) k)))
theorem yw_gram_f3 {post : Int32 → Prop} (hA : AL ≤ 6) (ha : a < AL) (hb : b < AL) {r : Int32} (hp : ¬ ∃ d, d < AL ∧ r = nI d) (k : post (-1)) : wpY_gram post (Ydc, Yml, Ymn, nI AL, Ync, Ysr, Ypr, Ysz, Ywd, Ykd, Yar, Yhi, Yh1, Yh2, Yrl) (nI a) (nI b) r := by
  unfold wpY_gram
  exact yw_noLetter_t (by omega) ha (br_t rfl (yw_noLetter_t (by omega) hb (br_t rfl (yw_noLetter_f (by omega) hp (br_f (by decide) k)))))
end
/-- slot i has the trigram at place q; somewhere -/
def yg_M (wd : Nat → Int32) (a b c : Int32) (i q : Nat) : Prop := wd (i * 12 + q) = a ∧ wd (i * 12 + q + 1) = b ∧ wd (i * 12 + q + 2) = c
def yg_Q (wd pr : Nat → Int32) (S : Nat → Nat) (a b c : Int32) (i : Nat) : Prop := ¬ pr i = 0 ∧ ∃ q, q + 2 < S i ∧ yg_M wd a b c i q
section
variable {Ydc Yml Ymn Yal Ync Ysr : Int32} {Ypr Ysz Ywd Ykd Yar Yhi Yh1 Yh2 Yrl : Nat → Int32}
variable {D d AL : Nat} {S : Nat → Nat} {a b c : Int32}
theorem yg_in {post : Int32 → Prop} {J : Int32 → Int32 → Prop} (hd : d < 8) (hS : S d ≤ 12) (hp : ¬ Ypr d = 0) (el : Ysz d = nI (S d))
    (kJ : ∀ y, (∀ i, bt y i = true ↔ (i < d + 1 ∧ yg_Q Ywd Ypr S a b c i)) → J y (nI (d + 1))) :
    ∀ (n p : Nat) (y : Int32), p ≤ S d → S d - p < n → (∀ i, bt y i = true ↔ (i < d ∧ yg_Q Ywd Ypr S a b c i) ∨ (i = d ∧ ∃ q, q < p ∧ q + 2 < S d ∧ yg_M Ywd a b c d q)) →
      wY_gram_48 post J a b c (nI d) Ydc Yml Ymn Yal Ync Ysr Ypr Ysz Ywd Ykd Yar Yhi Yh1 Yh2 Yrl n y (nI (d * 12 + p)) := by
  intro n
  have v8 : vp_in (nI d) 8 := vp_in_nI (by omega) (by omega)
  have ic : (nI d).toNatClampNeg = d := nI_clamp (by omega)
  induction n with
  | zero => intro p y _ h; exact absurd h (by omega)
  | succ n ih =>
    intro p y hpS hn hy
    unfold wY_gram_48
    rw [ic]
    refine ⟨v8, br_f hp ⟨v8, ?_⟩⟩
    rw [el, ax_m12, nI_add, ax_a2, nI_1 (d * 12 + p)]
    by_cases e : d * 12 + S d ≤ d * 12 + p + 2
    · refine br_t (nI_le e (by omega)) (nm_r (nI_1 d) (kJ y ?_))
      intro i
      rw [hy i]
      constructor
      · intro h
        rcases h with h | h
        · exact ⟨by omega, h.2⟩
        · obtain ⟨e1, q, _, h2, h3⟩ := h
          subst e1
          exact ⟨by omega, hp, q, h2, h3⟩
      · intro h
        by_cases e1 : i = d
        · subst e1
          obtain ⟨_, _, q, h2, h3⟩ := h
          exact Or.inr ⟨rfl, q, by omega, h2, h3⟩
        · exact Or.inl ⟨by omega, h.2⟩
    · have i0 : (nI (d * 12 + p)).toNatClampNeg = d * 12 + p := nI_clamp (by omega)
      have i1 : (nI (d * 12 + p + 1)).toNatClampNeg = d * 12 + p + 1 := nI_clamp (by omega)
      have i2 : (nI (d * 12 + p + 2)).toNatClampNeg = d * 12 + p + 2 := nI_clamp (by omega)
      have no : ¬ yg_M Ywd a b c d p → ∀ x, x = nI (d * 12 + p + 1) → wY_gram_48 post J a b c (nI d) Ydc Yml Ymn Yal Ync Ysr Ypr Ysz Ywd Ykd Yar Yhi Yh1 Yh2 Yrl n y x := by
        intro hno x ex
        rw [ex]
        refine ih (p + 1) y (by omega) (by omega) ?_
        intro i
        rw [hy i]
        constructor
        · intro h
          rcases h with h | h
          · exact Or.inl h
          · obtain ⟨e1, q, h1, h2⟩ := h
            exact Or.inr ⟨e1, q, by omega, h2⟩
        · intro h
          rcases h with h | h
          · exact Or.inl h
          · obtain ⟨e1, q, h1, h2, h3⟩ := h
            refine Or.inr ⟨e1, q, ?_, h2, h3⟩
            have : ¬ q = p := fun z => hno (z ▸ h3)
            omega
      refine br_f (nI_ge (by omega) (by omega)) ⟨vp_in_nI (by omega) (by omega), ?_⟩
      rw [i0, i1, i2]
      refine br_c (fun h0 => ⟨vp_in_nI (by omega) (by omega), br_c (fun h1 => ⟨vp_in_nI (by omega) (by omega), br_c (fun h2 => ?_) (fun h2 => ?_)⟩) (fun h1 => ?_)⟩) (fun h0 => ?_)
      · refine nm_e (nm_e ?_)
        refine ih (p + 1) _ (by omega) (by omega) ?_
        intro i
        rw [ab_set (by omega), hy i]
        constructor
        · intro h
          rcases h with h | h
          · rcases h with h | h
            · exact Or.inl h
            · obtain ⟨e1, q, h1, h2⟩ := h
              exact Or.inr ⟨e1, q, by omega, h2⟩
          · exact Or.inr ⟨h, p, by omega, by omega, h0, h1, h2⟩
        · intro h
          rcases h with h | h
          · exact Or.inl (Or.inl h)
          · exact Or.inr h.1
      · exact no (fun z => h2 z.2.2)
      · exact no (fun z => h1 z.2.1)
      · exact no (fun z => h0 z.1)
theorem yg_out {post : Int32 → Prop} (hD : D ≤ 8) (hS : ∀ d, d < D → ¬ Ypr d = 0 → Ysz d = nI (S d) ∧ S d ≤ 12)
    (k : ∀ y, (∀ i, bt y i = true ↔ (i < D ∧ yg_Q Ywd Ypr S a b c i)) → post y) :
    ∀ (n d : Nat) (y : Int32), d ≤ D → D - d < n → (∀ i, bt y i = true ↔ (i < d ∧ yg_Q Ywd Ypr S a b c i)) → wY_gram_32 post a b c (nI D) Yml Ymn Yal Ync Ysr Ypr Ysz Ywd Ykd Yar Yhi Yh1 Yh2 Yrl n y (nI d) := by
  intro n
  induction n with
  | zero => intro d y _ h; exact absurd h (by omega)
  | succ n ih =>
    intro d y hd hn hy
    unfold wY_gram_32
    by_cases e : d = D
    · subst e
      exact br_t (nI_le (Nat.le_refl _) (by omega)) (k y hy)
    · refine br_f (nI_ge (by omega) (by omega)) (nm_r (ax_m12 d) ?_)
      by_cases hp : Ypr d = 0
      · refine ⟨1, ?_⟩
        unfold wY_gram_48
        refine ⟨vp_in_nI (by omega) (by omega), br_t ?_ (nm_r (nI_1 d) (ih (d + 1) y (by omega) (by omega) ?_))⟩
        · rw [nI_clamp (by omega)]; exact hp
        · intro i
          rw [hy i]
          constructor
          · intro h
            exact ⟨by omega, h.2⟩
          · intro h
            refine ⟨?_, h.2⟩
            have : ¬ i = d := fun z => h.2.1 (z ▸ hp)
            omega
      · obtain ⟨h1, h2⟩ := hS d (by omega) hp
        refine ⟨S d + 1, yg_in (Ydc := nI D) (S := S) (by omega) h2 hp h1 ?_ (S d + 1) 0 y (by omega) (by omega) ?_⟩
        · intro y' hy'
          exact ih (d + 1) y' (by omega) (by omega) hy'
        · intro i
          rw [hy i]
          constructor
          · intro h
            exact Or.inl h
          · intro h
            rcases h with h | h
            · exact h
            · obtain ⟨_, q, h1, _⟩ := h
              omega
end
section
variable {Ydc Yml Ymn Yal Ync Ysr : Int32} {Ypr Ysz Ywd Ykd Yar Yhi Yh1 Yh2 Yrl : Nat → Int32}
variable {D AL a b c : Nat} {S : Nat → Nat}
theorem yw_gram_t {post : Int32 → Prop} (hA : AL ≤ 6) (ha : a < AL) (hb : b < AL) (hc : c < AL) (hD : D ≤ 8) (hS : ∀ d, d < D → ¬ Ypr d = 0 → Ysz d = nI (S d) ∧ S d ≤ 12)
    (k : ∀ y, (∀ i, bt y i = true ↔ (i < D ∧ yg_Q Ywd Ypr S (nI a) (nI b) (nI c) i)) → post y) : wpY_gram post (nI D, Yml, Ymn, nI AL, Ync, Ysr, Ypr, Ysz, Ywd, Ykd, Yar, Yhi, Yh1, Yh2, Yrl) (nI a) (nI b) (nI c) := by
  unfold wpY_gram
  refine yw_noLetter_t (by omega) ha (br_t rfl (yw_noLetter_t (by omega) hb (br_t rfl (yw_noLetter_t (by omega) hc (br_t rfl ⟨D + 1, ?_⟩)))))
  refine yg_out (S := S) (Yal := nI AL) hD hS k (D + 1) 0 0 (by omega) (by omega) ?_
  intro i
  rw [b_0]
  exact ⟨fun z => absurd z (by decide), fun z => absurd z.1 (by omega)⟩
end
end
section
/-! ===== X: node ===== -/
theorem ax_us {f : Nat → Int32} {k : Nat} : upd f k (f k) = f := by
  funext j
  by_cases e : j = k
  · rw [e, pk_us]
  · rw [pk_un e]
section
variable {Xdc Xml Xmn Xal Xpr Xnc Xps Xtp Xsr Xhi : Int32} {Xwd Xln Xgc Xpo Xkd Xmk Xnu Xfi Xla Xfo Xac Xmd Xec Xew Xh1 Xh2 : Nat → Int32} {Xhd Xtl : Nat → Int64}
variable {a AL : Nat}
theorem xw_link2 {post : SX → Prop} {x y : Int32} {F : Nat → Int32} (k : ∀ fo, (∀ p q, au_fo fo p q ↔ au_fo F p q ∨ (p < 24 ∧ au_in x p ∧ au_in y q)) → post (Xdc, Xml, Xmn, Xal, Xpr, Xnc, Xps, Xtp, Xsr, Xhi, Xwd, Xln, Xgc, Xpo, Xkd, Xmk, Xnu, Xfi, Xla, fo, Xac, Xhd, Xtl, Xmd, Xec, Xew, Xh1, Xh2)) :
    ∀ (n i : Nat) (fo : Nat → Int32), i ≤ 24 → 24 - i < n → (∀ p q, au_fo fo p q ↔ au_fo F p q ∨ (p < i ∧ au_in x p ∧ au_in y q)) → wX_link_2 post x y Xdc Xml Xmn Xal Xpr Xnc Xps Xtp Xsr Xhi n (nI i) Xwd Xln Xgc Xpo Xkd Xmk Xnu Xfi Xla fo Xac Xhd Xtl Xmd Xec Xew Xh1 Xh2 := by
  intro n
  induction n with
  | zero => intro i fo _ h; exact absurd h (by omega)
  | succ n ih =>
    intro i fo hi hn hI
    unfold wX_link_2
    by_cases e : i = 24
    · subst e
      exact br_t (by decide) (k fo hI)
    · refine br_f (nI_ge (b := 24) (by omega) (by omega)) (br_c (fun h => ?_) (fun h => ?_))
      · have hb := (ab_t0 _ (by omega)).mp h
        refine nm_r (nI_1 i) (ih (i + 1) fo (by omega) (by omega) ?_)
        intro p q
        rw [hI p q]
        constructor
        · intro z
          rcases z with z | z
          · exact Or.inl z
          · exact Or.inr ⟨by omega, z.2⟩
        · intro z
          rcases z with z | z
          · exact Or.inl z
          · refine Or.inr ⟨?_, z.2⟩
            have : ¬ p = i := fun ee => by
              have z1 := z.2.1
              unfold au_in at z1
              rw [ee, hb] at z1
              exact absurd z1 (by decide)
            omega
      · have hb := (ab_n0 _ (by omega)).mp h
        have v : vp_in (nI i) 24 := vp_in_nI (by omega) (by omega)
        refine ⟨v, v, nm_r (e' := upd fo i (fo i ||| y)) (by rw [nI_clamp (by omega)]) (nm_r (nI_1 i) (ih (i + 1) _ (by omega) (by omega) ?_))⟩
        intro p q
        by_cases e2 : p = i
        · have e3 : au_fo (upd fo i (fo i ||| y)) p q ↔ au_fo fo p q ∨ au_in y q := by
            unfold au_fo
            rw [e2, pk_us]
            exact ab_orI _ _ _
          rw [e3, hI p q]
          constructor
          · intro z
            rcases z with z | z
            · rcases z with z | z
              · exact Or.inl z
              · exact Or.inr ⟨by omega, z.2⟩
            · exact Or.inr ⟨by omega, e2 ▸ hb, z⟩
          · intro z
            rcases z with z | z
            · exact Or.inl (Or.inl z)
            · exact Or.inr z.2.2
        · have e3 : au_fo (upd fo i (fo i ||| y)) p q ↔ au_fo fo p q := by
            unfold au_fo
            rw [pk_un e2]
          rw [e3, hI p q]
          constructor
          · intro z
            rcases z with z | z
            · exact Or.inl z
            · exact Or.inr ⟨by omega, z.2⟩
          · intro z
            rcases z with z | z
            · exact Or.inl z
            · exact Or.inr ⟨by omega, z.2⟩
theorem xw_link {post : SX → Prop} {x y : Int32} (k : ∀ fo, (∀ p q, au_fo fo p q ↔ au_fo Xfo p q ∨ (p < 24 ∧ au_in x p ∧ au_in y q)) → post (Xdc, Xml, Xmn, Xal, Xpr, Xnc, Xps, Xtp, Xsr, Xhi, Xwd, Xln, Xgc, Xpo, Xkd, Xmk, Xnu, Xfi, Xla, fo, Xac, Xhd, Xtl, Xmd, Xec, Xew, Xh1, Xh2)) : wpX_link post (Xdc, Xml, Xmn, Xal, Xpr, Xnc, Xps, Xtp, Xsr, Xhi, Xwd, Xln, Xgc, Xpo, Xkd, Xmk, Xnu, Xfi, Xla, Xfo, Xac, Xhd, Xtl, Xmd, Xec, Xew, Xh1, Xh2) x y := by
  unfold wpX_link
  refine ⟨25, xw_link2 (F := Xfo) k 25 0 Xfo (by omega) (by omega) ?_⟩
  intro p q
  exact ⟨Or.inl, fun z => z.elim id (fun y => absurd y.1 (by omega))⟩
theorem xw_b141 {post : SX → Prop} {b : Nat} {z : Int32} (ha : a < 8) (hb : b < 8) (k : ∀ v, (¬ v = 0 ↔ (¬ Xnu a = 0 ∧ ¬ Xnu b = 0)) → post (Xdc, Xml, Xmn, Xal, Xpr, Xnc, Xps, Xtp, Xsr, Xhi, Xwd, Xln, Xgc, Xpo, Xkd, Xmk, upd Xnu a v, Xfi, upd Xla a z, Xfo, Xac, Xhd, Xtl, Xmd, Xec, Xew, Xh1, Xh2)) : wX_buildBinary_141 post (nI a) (nI b) z (nI a) Xdc Xml Xmn Xal Xpr Xnc Xps Xtp Xsr Xhi Xwd Xln Xgc Xpo Xkd Xmk Xnu Xfi Xla Xfo Xac Xhd Xtl Xmd Xec Xew Xh1 Xh2 := by
  have va : vp_in (nI a) 8 := vp_in_nI ha (by omega)
  have vb : vp_in (nI b) 8 := vp_in_nI hb (by omega)
  have ia : (nI a).toNatClampNeg = a := nI_clamp (by omega)
  have ib : (nI b).toNatClampNeg = b := nI_clamp (by omega)
  unfold wX_buildBinary_141
  rw [ia, ib]
  refine ⟨va, nm_e ⟨va, br_c (fun h => ⟨va, nm_e (k _ ?_)⟩) (fun h => ⟨vb, br_c (fun h2 => ⟨va, nm_e (k _ ?_)⟩) (fun h2 => ⟨va, nm_e (k _ ?_)⟩)⟩)⟩⟩
  · exact ⟨fun z => absurd ax_b0 z, fun z => absurd h z.1⟩
  · exact ⟨fun z => absurd ax_b0 z, fun z => absurd h2 z.2⟩
  · exact ⟨fun _ => ⟨h, h2⟩, fun _ => by decide⟩
theorem xw_b105 {post : SX → Prop} {b : Nat} (ha : a < 8) (hb : b < 8) (k : ∀ v vl, (¬ v = 0 ↔ (¬ Xnu a = 0 ∧ ¬ Xnu b = 0)) → (∀ p, au_in vl p ↔ au_in (Xla b) p ∨ (¬ Xnu b = 0 ∧ au_in (Xla a) p)) → post (Xdc, Xml, Xmn, Xal, Xpr, Xnc, Xps, Xtp, Xsr, Xhi, Xwd, Xln, Xgc, Xpo, Xkd, Xmk, upd Xnu a v, Xfi, upd Xla a vl, Xfo, Xac, Xhd, Xtl, Xmd, Xec, Xew, Xh1, Xh2)) : wX_buildBinary_105 post (nI a) (nI b) Xdc Xml Xmn Xal Xpr Xnc Xps Xtp Xsr Xhi Xwd Xln Xgc Xpo Xkd Xmk Xnu Xfi Xla Xfo Xac Xhd Xtl Xmd Xec Xew Xh1 Xh2 := by
  have va : vp_in (nI a) 8 := vp_in_nI ha (by omega)
  have vb : vp_in (nI b) 8 := vp_in_nI hb (by omega)
  have ia : (nI a).toNatClampNeg = a := nI_clamp (by omega)
  have ib : (nI b).toNatClampNeg = b := nI_clamp (by omega)
  unfold wX_buildBinary_105
  rw [ia, ib]
  refine ⟨vb, br_c (fun h => ⟨vb, xw_b141 ha hb (fun v hv => k v _ hv ?_)⟩) (fun h => ⟨va, vb, xw_b141 ha hb (fun v hv => k v _ hv ?_)⟩)⟩
  · intro p
    exact ⟨Or.inl, fun z => z.elim id (fun y => absurd h y.1)⟩
  · intro p
    unfold au_in
    rw [ab_orI]
    exact ⟨fun z => z.elim (fun y => Or.inr ⟨h, y⟩) Or.inl, fun z => z.elim Or.inr (fun y => Or.inl y.2)⟩
theorem xw_cat {post : SX → Prop} {b : Nat} {x : Int32} (hx : ¬ x = 4) (ha : a < 8) (hb : b < 8)
    (k : ∀ fo v vf vl, (∀ p q, au_fo fo p q ↔ au_fo Xfo p q ∨ (p < 24 ∧ au_in (Xla a) p ∧ au_in (Xfi b) q)) → (¬ v = 0 ↔ (¬ Xnu a = 0 ∧ ¬ Xnu b = 0)) →
      (∀ p, au_in vf p ↔ au_in (Xfi a) p ∨ (¬ Xnu a = 0 ∧ au_in (Xfi b) p)) → (∀ p, au_in vl p ↔ au_in (Xla b) p ∨ (¬ Xnu b = 0 ∧ au_in (Xla a) p)) →
      post (Xdc, Xml, Xmn, Xal, Xpr, Xnc, Xps, Xtp, Xsr, Xhi, Xwd, Xln, Xgc, Xpo, Xkd, Xmk, upd Xnu a v, upd Xfi a vf, upd Xla a vl, fo, Xac, Xhd, Xtl, Xmd, Xec, Xew, Xh1, Xh2)) : wpX_buildBinary post (Xdc, Xml, Xmn, Xal, Xpr, Xnc, Xps, Xtp, Xsr, Xhi, Xwd, Xln, Xgc, Xpo, Xkd, Xmk, Xnu, Xfi, Xla, Xfo, Xac, Xhd, Xtl, Xmd, Xec, Xew, Xh1, Xh2) x (nI a) (nI b) := by
  have va : vp_in (nI a) 8 := vp_in_nI ha (by omega)
  have vb : vp_in (nI b) 8 := vp_in_nI hb (by omega)
  have ia : (nI a).toNatClampNeg = a := nI_clamp (by omega)
  have ib : (nI b).toNatClampNeg = b := nI_clamp (by omega)
  unfold wpX_buildBinary
  refine br_f hx ⟨va, vb, ?_⟩
  rw [ia, ib]
  refine xw_link (fun fo hfo => ⟨va, br_c (fun h => ?_) (fun h => ⟨va, vb, va, nm_e ?_⟩)⟩)
  · refine xw_b105 (Xfo := fo) ha hb (fun v vl hv hl => ?_)
    have := k fo v (Xfi a) vl hfo hv (fun p => ⟨Or.inl, fun z => z.elim id (fun y => absurd h y.1)⟩) hl
    rw [ax_us] at this
    exact this
  · refine xw_b105 (Xfo := fo) (Xfi := upd Xfi a (Xfi a ||| Xfi b)) ha hb (fun v vl hv hl => ?_)
    refine k fo v _ vl hfo hv ?_ hl
    intro p
    unfold au_in
    rw [ab_orI]
    exact ⟨fun z => z.elim Or.inl (fun y => Or.inr ⟨h, y⟩), fun z => z.elim Or.inl (fun y => Or.inr y.2)⟩
theorem xw_alt {post : SX → Prop} {b : Nat} (ha : a < 8) (hb : b < 8)
    (k : ∀ v, (¬ v = 0 ↔ (¬ Xnu a = 0 ∨ ¬ Xnu b = 0)) → post (Xdc, Xml, Xmn, Xal, Xpr, Xnc, Xps, Xtp, Xsr, Xhi, Xwd, Xln, Xgc, Xpo, Xkd, Xmk, upd Xnu a v, upd Xfi a (Xfi a ||| Xfi b), upd Xla a (Xla a ||| Xla b), Xfo, Xac, Xhd, Xtl, Xmd, Xec, Xew, Xh1, Xh2)) : wpX_buildBinary post (Xdc, Xml, Xmn, Xal, Xpr, Xnc, Xps, Xtp, Xsr, Xhi, Xwd, Xln, Xgc, Xpo, Xkd, Xmk, Xnu, Xfi, Xla, Xfo, Xac, Xhd, Xtl, Xmd, Xec, Xew, Xh1, Xh2) 4 (nI a) (nI b) := by
  have va : vp_in (nI a) 8 := vp_in_nI ha (by omega)
  have vb : vp_in (nI b) 8 := vp_in_nI hb (by omega)
  have ia : (nI a).toNatClampNeg = a := nI_clamp (by omega)
  have ib : (nI b).toNatClampNeg = b := nI_clamp (by omega)
  unfold wpX_buildBinary
  refine br_t rfl ?_
  rw [ia, ib]
  refine ⟨va, vb, va, nm_e ⟨va, vb, va, nm_e ⟨va, br_c (fun h => ⟨vb, br_c (fun h2 => ⟨va, nm_e (k _ ?_)⟩) (fun h2 => ⟨va, nm_e (k _ ?_)⟩)⟩) (fun h => ⟨va, nm_e (k _ ?_)⟩)⟩⟩⟩
  · exact ⟨fun z => absurd ax_b0 z, fun z => z.elim (fun y => absurd h y) (fun y => absurd h2 y)⟩
  · exact ⟨fun _ => Or.inr h2, fun _ => by decide⟩
  · exact ⟨fun _ => Or.inl h, fun _ => by decide⟩
theorem xw_un {post : SX → Prop} {x : Int32} (ha : a < 8)
    (k : ∀ fo nu, (∀ p q, au_fo fo p q ↔ au_fo Xfo p q ∨ (¬ x = 7 ∧ p < 24 ∧ au_in (Xla a) p ∧ au_in (Xfi a) q)) → (∀ y, ¬ y = a → nu y = Xnu y) → (¬ nu a = 0 ↔ (¬ Xnu a = 0 ∨ ¬ x = 6)) →
      post (Xdc, Xml, Xmn, Xal, Xpr, Xnc, Xps, Xtp, Xsr, Xhi, Xwd, Xln, Xgc, Xpo, Xkd, Xmk, nu, Xfi, Xla, fo, Xac, Xhd, Xtl, Xmd, Xec, Xew, Xh1, Xh2)) : wpX_buildUnary post (Xdc, Xml, Xmn, Xal, Xpr, Xnc, Xps, Xtp, Xsr, Xhi, Xwd, Xln, Xgc, Xpo, Xkd, Xmk, Xnu, Xfi, Xla, Xfo, Xac, Xhd, Xtl, Xmd, Xec, Xew, Xh1, Xh2) x (nI a) := by
  have va : vp_in (nI a) 8 := vp_in_nI ha (by omega)
  have ia : (nI a).toNatClampNeg = a := nI_clamp (by omega)
  have k22 : ∀ fo, (∀ p q, au_fo fo p q ↔ au_fo Xfo p q ∨ (¬ x = 7 ∧ p < 24 ∧ au_in (Xla a) p ∧ au_in (Xfi a) q)) → wX_buildUnary_22 post x (nI a) Xdc Xml Xmn Xal Xpr Xnc Xps Xtp Xsr Xhi Xwd Xln Xgc Xpo Xkd Xmk Xnu Xfi Xla fo Xac Xhd Xtl Xmd Xec Xew Xh1 Xh2 := by
    intro fo hfo
    unfold wX_buildUnary_22
    refine br_c (fun h => k fo Xnu hfo (fun _ _ => rfl) ⟨Or.inl, fun z => z.elim id (fun y => absurd h y)⟩) (fun h => ⟨va, nm_e (k fo _ hfo (fun y hy => ?_) ⟨fun _ => Or.inr h, fun _ => ?_⟩)⟩)
    · rw [ia, pk_un hy]
    · rw [ia, pk_us]; decide
  unfold wpX_buildUnary
  refine br_c (fun h => k22 Xfo (fun p q => ⟨Or.inl, fun z => z.elim id (fun y => absurd h y.1)⟩)) (fun h => ⟨va, va, ?_⟩)
  rw [ia]
  refine xw_link (fun fo hfo => k22 fo (fun p q => ?_))
  rw [hfo p q]
  exact ⟨fun z => z.elim Or.inl (fun y => Or.inr ⟨h, y⟩), fun z => z.elim Or.inl (fun y => Or.inr y.2)⟩
theorem xw_p71 {post : SX → Prop} {tp : Nat} {x own : Int32} (ht : tp < 8) (k : ∀ v, (x = 0 → v = 1) → (¬ x = 0 → v = 0) → post (Xdc, Xml, Xmn, Xal, Xpr, Xnc, Xps, nI (tp + 1), Xsr, Xhi, Xwd, Xln, Xgc, Xpo, Xkd, Xmk, upd Xnu tp v, upd Xfi tp own, upd Xla tp own, Xfo, Xac, Xhd, Xtl, Xmd, Xec, Xew, Xh1, Xh2)) : wX_pushLeaf_71 post x own Xdc Xml Xmn Xal Xpr Xnc Xps (nI tp) Xsr Xhi Xwd Xln Xgc Xpo Xkd Xmk Xnu Xfi Xla Xfo Xac Xhd Xtl Xmd Xec Xew Xh1 Xh2 := by
  have va : vp_in (nI tp) 8 := vp_in_nI ht (by omega)
  have ia : (nI tp).toNatClampNeg = tp := nI_clamp (by omega)
  unfold wX_pushLeaf_71
  refine br_c (fun h => ?_) (fun h => ?_)
  · unfold wX_pushLeaf_88
    rw [ia, nI_1]
    exact ⟨va, nm_e ⟨va, nm_e ⟨va, nm_e (nm_e (k _ (fun _ => ax_b1) (fun z => absurd h z)))⟩⟩⟩
  · unfold wX_pushLeaf_88
    rw [ia, nI_1]
    exact ⟨va, nm_e ⟨va, nm_e ⟨va, nm_e (nm_e (k _ (fun z => absurd z h) (fun _ => ax_b0)))⟩⟩⟩
theorem xw_p26 {post : SX → Prop} {ps : Nat} {x m own : Int32} {A : Nat → Int32} (hA : AL ≤ 6)
    (k : ∀ ac, (∀ c p, au_ac ac p c ↔ au_ac A p c ∨ (c < AL ∧ au_in own p ∧ bt m c = true)) → (∀ c, 6 ≤ c → ac c = A c) → wX_pushLeaf_71 post x own Xdc Xml Xmn (nI AL) Xpr Xnc (nI (ps + 1)) Xtp Xsr Xhi Xwd Xln Xgc Xpo Xkd Xmk Xnu Xfi Xla Xfo ac Xhd Xtl Xmd Xec Xew Xh1 Xh2) :
    ∀ (n i : Nat) (ac : Nat → Int32), i ≤ AL → AL - i < n → (∀ c p, au_ac ac p c ↔ au_ac A p c ∨ (c < i ∧ au_in own p ∧ bt m c = true)) → (∀ c, 6 ≤ c → ac c = A c) → wX_pushLeaf_26 post x m own Xdc Xml Xmn (nI AL) Xpr Xnc (nI ps) Xtp Xsr Xhi n (nI i) Xwd Xln Xgc Xpo Xkd Xmk Xnu Xfi Xla Xfo ac Xhd Xtl Xmd Xec Xew Xh1 Xh2 := by
  intro n
  induction n with
  | zero => intro i ac _ h; exact absurd h (by omega)
  | succ n ih =>
    intro i ac hi hn hI h6
    unfold wX_pushLeaf_26
    by_cases e : i = AL
    · subst e
      exact br_t (nI_le (Nat.le_refl _) (by omega)) (nm_r (nI_1 ps) (k ac hI h6))
    · refine br_f (nI_ge (by omega) (by omega)) (br_c (fun h => ?_) (fun h => ?_))
      · have hb := (ab_t0 _ (by omega)).mp h
        refine nm_r (nI_1 i) (ih (i + 1) ac (by omega) (by omega) ?_ h6)
        intro c p
        rw [hI c p]
        constructor
        · intro z
          rcases z with z | z
          · exact Or.inl z
          · exact Or.inr ⟨by omega, z.2⟩
        · intro z
          rcases z with z | z
          · exact Or.inl z
          · refine Or.inr ⟨?_, z.2⟩
            have : ¬ c = i := fun ee => by
              have z1 := z.2.2
              rw [ee, hb] at z1
              exact absurd z1 (by decide)
            omega
      · have hb := (ab_n0 _ (by omega)).mp h
        have v : vp_in (nI i) 6 := vp_in_nI (by omega) (by omega)
        refine ⟨v, v, nm_r (e' := upd ac i (ac i ||| own)) (by rw [nI_clamp (by omega)]) (nm_r (nI_1 i) (ih (i + 1) _ (by omega) (by omega) ?_ ?_))⟩
        · intro c p
          by_cases e2 : c = i
          · have e3 : au_ac (upd ac i (ac i ||| own)) p c ↔ au_ac ac p c ∨ au_in own p := by
              unfold au_ac
              rw [e2, pk_us]
              exact ab_orI _ _ _
            rw [e3, hI c p]
            constructor
            · intro z
              rcases z with z | z
              · rcases z with z | z
                · exact Or.inl z
                · exact Or.inr ⟨by omega, z.2⟩
              · exact Or.inr ⟨by omega, z, e2 ▸ hb⟩
            · intro z
              rcases z with z | z
              · exact Or.inl (Or.inl z)
              · exact Or.inr z.2.1
          · have e3 : au_ac (upd ac i (ac i ||| own)) p c ↔ au_ac ac p c := by
              unfold au_ac
              rw [pk_un e2]
            rw [e3, hI c p]
            constructor
            · intro z
              rcases z with z | z
              · exact Or.inl z
              · exact Or.inr ⟨by omega, z.2⟩
            · intro z
              rcases z with z | z
              · exact Or.inl z
              · exact Or.inr ⟨by omega, z.2⟩
        · intro c hc
          rw [pk_un (by omega)]
          exact h6 c hc
theorem xw_leaf {post : SX → Prop} {ps tp : Nat} {x m : Int32} (hA : AL ≤ 6) (hx : ¬ x = 0) (hps : ps < 24) (ht : tp < 8)
    (k : ∀ ac own, (∀ p, au_in own p ↔ p = ps) → (∀ c p, au_ac ac p c ↔ au_ac Xac p c ∨ (c < AL ∧ p = ps ∧ bt m c = true)) → (∀ c, 6 ≤ c → ac c = Xac c) →
      post (Xdc, Xml, Xmn, nI AL, Xpr, Xnc, nI (ps + 1), nI (tp + 1), Xsr, Xhi, Xwd, Xln, Xgc, Xpo, Xkd, Xmk, upd Xnu tp 0, upd Xfi tp own, upd Xla tp own, upd Xfo ps 0, ac, Xhd, Xtl, Xmd, Xec, Xew, Xh1, Xh2)) : wpX_pushLeaf post (Xdc, Xml, Xmn, nI AL, Xpr, Xnc, nI ps, nI tp, Xsr, Xhi, Xwd, Xln, Xgc, Xpo, Xkd, Xmk, Xnu, Xfi, Xla, Xfo, Xac, Xhd, Xtl, Xmd, Xec, Xew, Xh1, Xh2) x m := by
  have ho : ∀ p, au_in ((1 : Int32) <<< (nI ps &&& 31)) p ↔ p = ps := by
    intro p
    unfold au_in
    rw [ab_one (by omega), decide_eq_true_iff]
  unfold wpX_pushLeaf
  refine br_f hx (nm_e ⟨vp_in_nI hps (by omega), nm_r (e' := upd Xfo ps 0) (by rw [nI_clamp (by omega)]) ⟨AL + 1, ?_⟩⟩)
  refine xw_p26 (A := Xac) (Xtp := nI tp) (Xfo := upd Xfo ps 0) hA ?_ (AL + 1) 0 Xac (by omega) (by omega) ?_ (fun _ _ => rfl)
  · intro ac h1 h6
    refine xw_p71 (Xal := nI AL) (Xps := nI (ps + 1)) (Xfo := upd Xfo ps 0) (Xac := ac) ht (fun v _ hv => ?_)
    rw [hv hx]
    refine k ac _ ho (fun c p => ?_) h6
    rw [h1 c p, ho p]
  · intro c p
    exact ⟨Or.inl, fun z => z.elim id (fun y => absurd y.1 (by omega))⟩
theorem xw_eps {post : SX → Prop} {tp : Nat} {m : Int32} (ht : tp < 8)
    (k : post (Xdc, Xml, Xmn, Xal, Xpr, Xnc, Xps, nI (tp + 1), Xsr, Xhi, Xwd, Xln, Xgc, Xpo, Xkd, Xmk, upd Xnu tp 1, upd Xfi tp 0, upd Xla tp 0, Xfo, Xac, Xhd, Xtl, Xmd, Xec, Xew, Xh1, Xh2)) : wpX_pushLeaf post (Xdc, Xml, Xmn, Xal, Xpr, Xnc, Xps, nI tp, Xsr, Xhi, Xwd, Xln, Xgc, Xpo, Xkd, Xmk, Xnu, Xfi, Xla, Xfo, Xac, Xhd, Xtl, Xmd, Xec, Xew, Xh1, Xh2) 0 m := by
  unfold wpX_pushLeaf
  refine br_t rfl (xw_p71 ht (fun v hv _ => ?_))
  rw [hv rfl]
  exact k
end
/-! the refusals -/
def nd_bad (x y : Int32) (AL : Nat) : Prop := x < 0 ∨ ¬ x ≤ 7 ∨ (x = 1 ∧ ¬ ∃ a, a < AL ∧ y = nI a) ∨ (x = 2 ∧ (y < 0 ∨ ¬ y < (1 : Int32) <<< (nI AL &&& 31)))
section
variable {Xdc Xml Xmn Xal Xpr Xnc Xps Xtp Xsr Xhi : Int32} {Xwd Xln Xgc Xpo Xkd Xmk Xnu Xfi Xla Xfo Xac Xmd Xec Xew Xh1 Xh2 : Nat → Int32} {Xhd Xtl : Nat → Int64}
variable {AL MN nc tp : Nat} {x y : Int32}
theorem xr_bad {post : Int32 → Prop} (hA : AL ≤ 6) (h : nd_bad x y AL) (k : post (-1)) : wpX_nodeRefusal post (Xdc, Xml, Xmn, nI AL, Xpr, Xnc, Xps, Xtp, Xsr, Xhi, Xwd, Xln, Xgc, Xpo, Xkd, Xmk, Xnu, Xfi, Xla, Xfo, Xac, Xhd, Xtl, Xmd, Xec, Xew, Xh1, Xh2) x y := by
  unfold wpX_nodeRefusal
  refine br_c (fun _ => k) (fun h0 => br_c (fun h7 => ?_) (fun _ => k))
  have k27 : (x = 2 ∧ (y < 0 ∨ ¬ y < (1 : Int32) <<< (nI AL &&& 31))) → wX_nodeRefusal_27 post x y Xdc Xml Xmn (nI AL) Xpr Xnc Xps Xtp Xsr Xhi Xwd Xln Xgc Xpo Xkd Xmk Xnu Xfi Xla Xfo Xac Xhd Xtl Xmd Xec Xew Xh1 Xh2 := by
    intro h
    unfold wX_nodeRefusal_27
    refine br_t h.1 (br_c (fun _ => k) (fun h1 => br_f ?_ k))
    exact h.2.elim (fun z => absurd z h1) id
  have h' := (h.resolve_left h0).resolve_left (fun z => z h7)
  refine br_c (fun h1 => ?_) (fun h1 => ?_)
  · rcases h' with h' | h'
    · exact xw_isLetter_f (by omega) h'.2 (br_t rfl k)
    · exact absurd (h'.1.symm.trans h1) (by decide)
  · exact k27 (h'.resolve_left (fun z => h1 z.1))
theorem xr_ok {post : Int32 → Prop} (hA : AL ≤ 6) (h : ¬ nd_bad x y AL) (k : wX_nodeRefusal_48 post x Xdc Xml Xmn (nI AL) Xpr Xnc Xps Xtp Xsr Xhi Xwd Xln Xgc Xpo Xkd Xmk Xnu Xfi Xla Xfo Xac Xhd Xtl Xmd Xec Xew Xh1 Xh2) : wpX_nodeRefusal post (Xdc, Xml, Xmn, nI AL, Xpr, Xnc, Xps, Xtp, Xsr, Xhi, Xwd, Xln, Xgc, Xpo, Xkd, Xmk, Xnu, Xfi, Xla, Xfo, Xac, Xhd, Xtl, Xmd, Xec, Xew, Xh1, Xh2) x y := by
  have h0 : ¬ x < 0 := fun z => h (Or.inl z)
  have h7 : x ≤ 7 := Classical.byContradiction (fun z => h (Or.inr (Or.inl z)))
  have k27 : wX_nodeRefusal_27 post x y Xdc Xml Xmn (nI AL) Xpr Xnc Xps Xtp Xsr Xhi Xwd Xln Xgc Xpo Xkd Xmk Xnu Xfi Xla Xfo Xac Xhd Xtl Xmd Xec Xew Xh1 Xh2 := by
    unfold wX_nodeRefusal_27
    refine br_c (fun h2 => br_f (fun z => h (Or.inr (Or.inr (Or.inr ⟨h2, Or.inl z⟩)))) (br_t ?_ k)) (fun _ => k)
    exact Classical.byContradiction (fun z => h (Or.inr (Or.inr (Or.inr ⟨h2, Or.inr z⟩))))
  unfold wpX_nodeRefusal
  refine br_f h0 (br_t h7 (br_c (fun h1 => ?_) (fun _ => k27)))
  obtain ⟨a, ha, e⟩ : ∃ a, a < AL ∧ y = nI a := Classical.byContradiction (fun z => h (Or.inr (Or.inr (Or.inl ⟨h1, z⟩))))
  subst e
  exact xw_isLetter_t (by omega) ha (br_f (by decide) k27)
theorem xr_full {post : Int32 → Prop} (hM : MN ≤ 24) (hn : nc ≤ 24) (h : ¬ nc < MN) (k : post (-2)) : wX_nodeRefusal_48 post x Xdc Xml (nI MN) Xal Xpr (nI nc) Xps Xtp Xsr Xhi Xwd Xln Xgc Xpo Xkd Xmk Xnu Xfi Xla Xfo Xac Xhd Xtl Xmd Xec Xew Xh1 Xh2 := by
  unfold wX_nodeRefusal_48
  exact br_f (nI_nlt (by omega) (by omega)) k
theorem xr_deep {post : Int32 → Prop} (hM : MN ≤ 24) (h : nc < MN) (h2 : ¬ 2 < x) (ht : 8 ≤ tp) (ht' : tp ≤ 8) (k : post (-3)) : wX_nodeRefusal_48 post x Xdc Xml (nI MN) Xal Xpr (nI nc) Xps (nI tp) Xsr Xhi Xwd Xln Xgc Xpo Xkd Xmk Xnu Xfi Xla Xfo Xac Xhd Xtl Xmd Xec Xew Xh1 Xh2 := by
  unfold wX_nodeRefusal_48
  exact br_t (nI_lt h (by omega)) (br_f h2 (br_f (nI_nlt (b := 8) ht (by omega)) k))
theorem xr_leaf {post : Int32 → Prop} (hM : MN ≤ 24) (h : nc < MN) (h2 : ¬ 2 < x) (ht : tp < 8) (k : post 0) : wX_nodeRefusal_48 post x Xdc Xml (nI MN) Xal Xpr (nI nc) Xps (nI tp) Xsr Xhi Xwd Xln Xgc Xpo Xkd Xmk Xnu Xfi Xla Xfo Xac Xhd Xtl Xmd Xec Xew Xh1 Xh2 := by
  unfold wX_nodeRefusal_48
  exact br_t (nI_lt h (by omega)) (br_f h2 (br_t (nI_lt (b := 8) ht (by omega)) k))
theorem xr_bin {post : Int32 → Prop} (hM : MN ≤ 24) (h : nc < MN) (h2 : 2 < x) (h4 : ¬ 4 < x) (ht : 2 ≤ tp) (ht' : tp ≤ 8) (k : post 0) : wX_nodeRefusal_48 post x Xdc Xml (nI MN) Xal Xpr (nI nc) Xps (nI tp) Xsr Xhi Xwd Xln Xgc Xpo Xkd Xmk Xnu Xfi Xla Xfo Xac Xhd Xtl Xmd Xec Xew Xh1 Xh2 := by
  unfold wX_nodeRefusal_48
  refine br_t (nI_lt h (by omega)) (br_t h2 (br_f h4 ?_))
  unfold wX_nodeRefusal_93
  exact br_t (nI_le (a := 2) ht (by omega)) k
theorem xr_bin_f {post : Int32 → Prop} (hM : MN ≤ 24) (h : nc < MN) (h2 : 2 < x) (h4 : ¬ 4 < x) (ht : tp < 2) (k : post (-4)) : wX_nodeRefusal_48 post x Xdc Xml (nI MN) Xal Xpr (nI nc) Xps (nI tp) Xsr Xhi Xwd Xln Xgc Xpo Xkd Xmk Xnu Xfi Xla Xfo Xac Xhd Xtl Xmd Xec Xew Xh1 Xh2 := by
  unfold wX_nodeRefusal_48
  refine br_t (nI_lt h (by omega)) (br_t h2 (br_f h4 ?_))
  unfold wX_nodeRefusal_93
  exact br_f (nI_ge (b := 2) ht (by omega)) k
theorem xr_un {post : Int32 → Prop} (hM : MN ≤ 24) (h : nc < MN) (h2 : 2 < x) (h4 : 4 < x) (ht : 1 ≤ tp) (ht' : tp ≤ 8) (k : post 0) : wX_nodeRefusal_48 post x Xdc Xml (nI MN) Xal Xpr (nI nc) Xps (nI tp) Xsr Xhi Xwd Xln Xgc Xpo Xkd Xmk Xnu Xfi Xla Xfo Xac Xhd Xtl Xmd Xec Xew Xh1 Xh2 := by
  unfold wX_nodeRefusal_48
  refine br_t (nI_lt h (by omega)) (br_t h2 (br_t h4 ?_))
  unfold wX_nodeRefusal_93
  exact br_t (nI_le (a := 1) ht (by omega)) k
theorem xr_un_f {post : Int32 → Prop} (hM : MN ≤ 24) (h : nc < MN) (h2 : 2 < x) (h4 : 4 < x) (ht : tp < 1) (k : post (-4)) : wX_nodeRefusal_48 post x Xdc Xml (nI MN) Xal Xpr (nI nc) Xps (nI tp) Xsr Xhi Xwd Xln Xgc Xpo Xkd Xmk Xnu Xfi Xla Xfo Xac Xhd Xtl Xmd Xec Xew Xh1 Xh2 := by
  unfold wX_nodeRefusal_48
  refine br_t (nI_lt h (by omega)) (br_t h2 (br_t h4 ?_))
  unfold wX_nodeRefusal_93
  exact br_f (nI_ge (b := 1) ht (by omega)) k
end
end
section
/-! ===== X: an accepted node, reset; Y: depth, node, reset ===== -/
theorem nd_34 {x : Int32} (h2 : 2 < x) (h4 : ¬ 4 < x) : x = 3 ∨ x = 4 := by
  rw [Int32.lt_iff_toInt_lt, show (2 : Int32).toInt = 2 from by decide] at h2
  rw [Int32.lt_iff_toInt_lt, show (4 : Int32).toInt = 4 from by decide] at h4
  rcases (by omega : x.toInt = 3 ∨ x.toInt = 4) with h | h
  · exact Or.inl (Int32.toInt_inj.mp (h.trans (by decide)))
  · exact Or.inr (Int32.toInt_inj.mp (h.trans (by decide)))
theorem nd_lt5 {x : Int32} : x < 5 ↔ ¬ 4 < x := by
  rw [Int32.lt_iff_toInt_lt, Int32.lt_iff_toInt_lt, show (5 : Int32).toInt = 5 from by decide, show (4 : Int32).toInt = 4 from by decide]
  omega
theorem nd_2lt {x : Int32} (h : 4 < x) : 2 < x := Int32.lt_trans (by decide) h
theorem nd_nb (v i : Nat) : bt (nI v) i = true → v.testBit i = true := by
  intro h
  unfold bt at h
  have e : (nI v).toBitVec = BitVec.ofNat 32 v := rfl
  rw [e, BitVec.getLsbD_ofNat, Bool.and_eq_true] at h
  exact h.2
theorem nd_pw : ∀ A, A < 7 → (1 : Int32) <<< (nI A &&& 31) = nI (2 ^ A) := by decide +kernel
theorem nd_cls {y : Int32} {AL : Nat} (hA : AL ≤ 6) (h0 : ¬ y < 0) (h : y < (1 : Int32) <<< (nI AL &&& 31)) {c : Nat} (hb : bt y c = true) : c < AL := by
  rw [nd_pw AL (by omega)] at h
  obtain ⟨v, hv, e⟩ := nI_of h0
  subst e
  have h64 : 2 ^ AL ≤ 2 ^ 6 := Nat.pow_le_pow_right (by omega) hA
  rw [show (2 : Nat) ^ 6 = 64 from rfl] at h64
  rw [nI_ltI hv (by omega)] at h
  have hb := nd_nb v c hb
  rcases Nat.lt_or_ge c AL with z | z
  · exact z
  · have : 2 ^ AL ≤ 2 ^ c := Nat.pow_le_pow_right (by omega) z
    rw [Nat.testBit_lt_two_pow (by omega)] at hb
    exact absurd hb (by decide)
/-- the nodes and the automaton stand well -/
def nd_N (K M nu fi la fo ac : Nat → Int32) (nc ps tp : Nat) : Prop :=
  nc ≤ 24 ∧ ps ≤ nc ∧ aa_dep K nc = tp ∧ tp ≤ 8 ∧ au_AU K M nc nu fi la fo ac ps tp ∧ (∀ c, 6 ≤ c → ac c = 0)
section
variable {Xdc Xml Xmn Xal Xpr Xnc Xps Xtp Xsr Xhi : Int32} {Xwd Xln Xgc Xpo Xkd Xmk Xnu Xfi Xla Xfo Xac Xmd Xec Xew Xh1 Xh2 : Nat → Int32} {Xhd Xtl : Nat → Int64}
variable {AL MN nc ps tp : Nat} {x y : Int32}
theorem xn_34 {post : Int32 → SX → Prop} {m : Int32} (hA : AL ≤ 6) (hN : nd_N Xkd Xmk Xnu Xfi Xla Xfo Xac nc ps tp) (hn : nc < 24)
    (hm : ¬ x = 0 → ∀ c, bt m c = true → c < AL) (hl : ¬ 2 < x → tp < 8) (hb : 2 < x → ¬ 4 < x → 2 ≤ tp) (hu : 4 < x → 1 ≤ tp)
    (k : ∀ nu fi la fo ac ps', nd_N (upd Xkd nc x) (upd Xmk nc m) nu fi la fo ac (nc + 1) ps' (aa_dep (upd Xkd nc x) (nc + 1)) →
      post (nI (aa_dep (upd Xkd nc x) (nc + 1))) (Xdc, Xml, Xmn, nI AL, Xpr, nI (nc + 1), nI ps', nI (aa_dep (upd Xkd nc x) (nc + 1)), Xsr, Xhi, Xwd, Xln, Xgc, Xpo, upd Xkd nc x, upd Xmk nc m, nu, fi, la, fo, ac, Xhd, Xtl, Xmd, Xec, Xew, Xh1, Xh2)) :
    wX_node_34 post x m Xdc Xml Xmn (nI AL) Xpr (nI nc) (nI ps) (nI tp) Xsr Xhi Xwd Xln Xgc Xpo Xkd Xmk Xnu Xfi Xla Xfo Xac Xhd Xtl Xmd Xec Xew Xh1 Xh2 := by
  obtain ⟨n1, n2, n3, n4, n5, n6⟩ := hN
  have vn : vp_in (nI nc) 24 := vp_in_nI hn (by omega)
  have ic : (nI nc).toNatClampNeg = nc := nI_clamp (by omega)
  have hK : ∀ i, i < nc → upd Xkd nc x i = Xkd i := fun i hi => pk_un (by omega)
  have hM : ∀ i, i < nc → upd Xmk nc m i = Xmk i := fun i hi => pk_un (by omega)
  have eK : upd Xkd nc x nc = x := pk_us
  have eM : upd Xmk nc m nc = m := pk_us
  have ed : aa_dep (upd Xkd nc x) nc = tp := (aa_dep_congr hK).trans n3
  unfold wX_node_34
  rw [ic]
  refine ⟨vn, nm_e ⟨vn, nm_e (nm_r (nI_1 nc) ?_)⟩⟩
  by_cases h2 : 2 < x
  · refine br_t h2 (br_c (fun h4 => ?_) (fun h4 => ?_))
    · obtain ⟨a, ea⟩ : ∃ a, tp = a + 1 := ⟨tp - 1, by have := hu h4; omega⟩
      subst ea
      have ed' : aa_dep (upd Xkd nc x) (nc + 1) = a + 1 := by rw [aa_dep_un (by rw [eK]; exact h2) (by rw [eK]; exact h4), ed]
      rw [ed'] at k
      rw [nI_pred]
      refine xw_un (Xal := nI AL) (Xnc := nI (nc + 1)) (Xps := nI ps) (Xtp := nI (a + 1)) (Xkd := upd Xkd nc x) (Xmk := upd Xmk nc m) (by omega) (fun fo nu hfo hnu hv => ?_)
      refine k nu Xfi Xla fo Xac ps ⟨by omega, by omega, ed', n4, ?_, n6⟩
      refine au_un n5 n3 hK hM (by rw [eK]; exact h4) ?_ hnu (by rw [eK]; exact hv)
      obtain ⟨⟨ow, w⟩, _⟩ := n5
      intro p q
      rw [hfo p q, eK]
      exact ⟨fun z => z.elim Or.inl (fun z => Or.inr ⟨z.1, z.2.2⟩), fun z => z.elim Or.inl (fun z => Or.inr ⟨z.1, by have := w.2.2.1 a p (by omega) z.2.1; omega, z.2⟩)⟩
    · obtain ⟨a, ea⟩ : ∃ a, tp = a + 2 := ⟨tp - 2, by have := hb h2 h4; omega⟩
      subst ea
      have ed' : aa_dep (upd Xkd nc x) (nc + 1) = a + 1 := by rw [aa_dep_bin (by rw [eK]; exact h2) (by rw [eK]; exact h4), ed]; rfl
      rw [ed'] at k
      refine nm_r (e' := nI (a + 1)) (nI_pred (a + 1)) ?_
      rw [nI_pred]
      rcases nd_34 h2 h4 with e | e
      · subst e
        refine xw_cat (Xal := nI AL) (Xnc := nI (nc + 1)) (Xps := nI ps) (Xtp := nI (a + 1)) (Xkd := upd Xkd nc 3) (Xmk := upd Xmk nc m) (by decide) (by omega) (by omega) (fun fo v vf vl hfo hv hvf hvl => ?_)
        refine k _ _ _ fo Xac ps ⟨by omega, by omega, ed', by omega, ?_, n6⟩
        refine au_cat n5 n3 hK hM eK ?_ hv hvf hvl
        obtain ⟨⟨ow, w⟩, _⟩ := n5
        intro p q
        rw [hfo p q]
        exact ⟨fun z => z.elim Or.inl (fun z => Or.inr z.2), fun z => z.elim Or.inl (fun z => Or.inr ⟨by have := w.2.2.1 a p (by omega) z.1; omega, z⟩)⟩
      · subst e
        refine xw_alt (Xal := nI AL) (Xnc := nI (nc + 1)) (Xps := nI ps) (Xtp := nI (a + 1)) (Xkd := upd Xkd nc 4) (Xmk := upd Xmk nc m) (by omega) (by omega) (fun v hv => ?_)
        refine k _ _ _ Xfo Xac ps ⟨by omega, by omega, ed', by omega, ?_, n6⟩
        exact au_alt n5 n3 hK hM eK hv
  · refine br_f h2 ?_
    have ht := hl h2
    have ed' : aa_dep (upd Xkd nc x) (nc + 1) = tp + 1 := by rw [aa_dep_leaf (by rw [eK]; exact h2), ed]
    rw [ed'] at k
    by_cases h0 : x = 0
    · subst h0
      refine xw_eps (Xal := nI AL) (Xnc := nI (nc + 1)) (Xps := nI ps) (Xkd := upd Xkd nc 0) (Xmk := upd Xmk nc m) ht ?_
      refine k _ _ _ Xfo Xac ps ⟨by omega, by omega, ed', by omega, ?_, n6⟩
      exact au_eps n5 n3 hK hM eK
    · refine xw_leaf (Xnc := nI (nc + 1)) (Xkd := upd Xkd nc x) (Xmk := upd Xmk nc m) hA h0 (by omega) ht (fun ac own ho ha h6 => ?_)
      refine k _ _ _ _ ac (ps + 1) ⟨by omega, by omega, ed', by omega, ?_, fun c hc => (h6 c hc).trans (n6 c hc)⟩
      refine au_leaf n5 n3 hK hM (by rw [eK]; exact h2) (by rw [eK]; exact h0) ho ?_
      intro c p
      rw [ha c p, eM]
      exact ⟨fun z => z.elim Or.inl (fun z => Or.inr z.2), fun z => z.elim Or.inl (fun z => Or.inr ⟨hm h0 c z.2, z⟩)⟩
theorem xn_ok {post : Int32 → SX → Prop} (hA : AL ≤ 6) (hM : MN ≤ 24) (hN : nd_N Xkd Xmk Xnu Xfi Xla Xfo Xac nc ps tp) (hbad : ¬ nd_bad x y AL) (hn : nc < MN)
    (hl : ¬ 2 < x → tp < 8) (hb : 2 < x → ¬ 4 < x → 2 ≤ tp) (hu : 4 < x → 1 ≤ tp)
    (k : ∀ m nu fi la fo ac ps', (x = 1 → m = (1 : Int32) <<< (y &&& 31)) → (x = 2 → m = y) → nd_N (upd Xkd nc x) (upd Xmk nc m) nu fi la fo ac (nc + 1) ps' (aa_dep (upd Xkd nc x) (nc + 1)) →
      post (nI (aa_dep (upd Xkd nc x) (nc + 1))) (Xdc, Xml, nI MN, nI AL, Xpr, nI (nc + 1), nI ps', nI (aa_dep (upd Xkd nc x) (nc + 1)), Xsr, Xhi, Xwd, Xln, Xgc, Xpo, upd Xkd nc x, upd Xmk nc m, nu, fi, la, fo, ac, Xhd, Xtl, Xmd, Xec, Xew, Xh1, Xh2)) :
    wpX_node post (Xdc, Xml, nI MN, nI AL, Xpr, nI nc, nI ps, nI tp, Xsr, Xhi, Xwd, Xln, Xgc, Xpo, Xkd, Xmk, Xnu, Xfi, Xla, Xfo, Xac, Xhd, Xtl, Xmd, Xec, Xew, Xh1, Xh2) x y := by
  have ht := hN.2.2.2.1
  have c34 : ∀ m, (x = 1 → m = (1 : Int32) <<< (y &&& 31)) → (x = 2 → m = y) → (¬ x = 0 → ∀ c, bt m c = true → c < AL) → wX_node_34 post x m Xdc Xml (nI MN) (nI AL) Xpr (nI nc) (nI ps) (nI tp) Xsr Xhi Xwd Xln Xgc Xpo Xkd Xmk Xnu Xfi Xla Xfo Xac Xhd Xtl Xmd Xec Xew Xh1 Xh2 :=
    fun m h1 h2 hm => xn_34 (Xmn := nI MN) hA hN (by omega) hm hl hb hu (fun nu fi la fo ac ps' h => k m nu fi la fo ac ps' h1 h2 h)
  have key : (x = 1 → ∀ z : Int32, z = (1 : Int32) <<< (y &&& 31) → wX_node_26 post x y z Xdc Xml (nI MN) (nI AL) Xpr (nI nc) (nI ps) (nI tp) Xsr Xhi Xwd Xln Xgc Xpo Xkd Xmk Xnu Xfi Xla Xfo Xac Xhd Xtl Xmd Xec Xew Xh1 Xh2) ∧ (¬ x = 1 → wX_node_26 post x y 0 Xdc Xml (nI MN) (nI AL) Xpr (nI nc) (nI ps) (nI tp) Xsr Xhi Xwd Xln Xgc Xpo Xkd Xmk Xnu Xfi Xla Xfo Xac Xhd Xtl Xmd Xec Xew Xh1 Xh2) := by
    refine br_c (fun h1 => nm_e ?_) (fun h1 => ?_)
    · unfold wX_node_26
      refine br_f (fun z => absurd (h1.symm.trans z) (by decide)) (c34 _ (fun _ => rfl) (fun z => absurd (h1.symm.trans z) (by decide)) ?_)
      intro _ c hc
      obtain ⟨a, ha, e⟩ : ∃ a, a < AL ∧ y = nI a := Classical.byContradiction (fun z => hbad (Or.inr (Or.inr (Or.inl ⟨h1, z⟩))))
      rw [e, ab_one (by omega), decide_eq_true_iff] at hc
      omega
    · unfold wX_node_26
      refine br_c (fun h2 => c34 _ (fun z => absurd z h1) (fun _ => rfl) ?_) (fun h2 => c34 _ (fun z => absurd z h1) (fun z => absurd z h2) ?_)
      · intro _ c hc
        have h0 : ¬ y < 0 := fun z => hbad (Or.inr (Or.inr (Or.inr ⟨h2, Or.inl z⟩)))
        have hy : y < (1 : Int32) <<< (nI AL &&& 31) := Classical.byContradiction (fun z => hbad (Or.inr (Or.inr (Or.inr ⟨h2, Or.inr z⟩))))
        exact nd_cls hA h0 hy hc
      · intro _ c hc
        exact absurd hc ab_zz
  unfold wpX_node
  refine xr_ok (Xmn := nI MN) (Xnc := nI nc) (Xps := nI ps) (Xtp := nI tp) hA hbad ?_
  by_cases h2 : 2 < x
  · by_cases h4 : 4 < x
    · exact xr_un hM hn h2 h4 (hu h4) ht (br_t (by decide) key)
    · exact xr_bin hM hn h2 h4 (hb h2 h4) ht (br_t (by decide) key)
  · exact xr_leaf hM hn h2 (hl h2) (br_t (by decide) key)
theorem xn_bad {post : Int32 → SX → Prop} (hA : AL ≤ 6) (h : nd_bad x y AL) (k : post (-1) (Xdc, Xml, Xmn, nI AL, Xpr, Xnc, Xps, Xtp, Xsr, Xhi, Xwd, Xln, Xgc, Xpo, Xkd, Xmk, Xnu, Xfi, Xla, Xfo, Xac, Xhd, Xtl, Xmd, Xec, Xew, Xh1, Xh2)) : wpX_node post (Xdc, Xml, Xmn, nI AL, Xpr, Xnc, Xps, Xtp, Xsr, Xhi, Xwd, Xln, Xgc, Xpo, Xkd, Xmk, Xnu, Xfi, Xla, Xfo, Xac, Xhd, Xtl, Xmd, Xec, Xew, Xh1, Xh2) x y := by
  unfold wpX_node
  exact xr_bad hA h (br_f (by decide) k)
theorem xn_full {post : Int32 → SX → Prop} (hA : AL ≤ 6) (h : ¬ nd_bad x y AL) (hM : MN ≤ 24) (hn : nc ≤ 24) (hf : ¬ nc < MN) (k : post (-2) (Xdc, Xml, nI MN, nI AL, Xpr, nI nc, Xps, Xtp, Xsr, Xhi, Xwd, Xln, Xgc, Xpo, Xkd, Xmk, Xnu, Xfi, Xla, Xfo, Xac, Xhd, Xtl, Xmd, Xec, Xew, Xh1, Xh2)) : wpX_node post (Xdc, Xml, nI MN, nI AL, Xpr, nI nc, Xps, Xtp, Xsr, Xhi, Xwd, Xln, Xgc, Xpo, Xkd, Xmk, Xnu, Xfi, Xla, Xfo, Xac, Xhd, Xtl, Xmd, Xec, Xew, Xh1, Xh2) x y := by
  unfold wpX_node
  exact xr_ok (Xmn := nI MN) (Xnc := nI nc) hA h (xr_full hM hn hf (br_f (by decide) k))
theorem xn_deep {post : Int32 → SX → Prop} (hA : AL ≤ 6) (h : ¬ nd_bad x y AL) (hM : MN ≤ 24) (hf : nc < MN) (h2 : ¬ 2 < x) (ht : 8 ≤ tp) (ht' : tp ≤ 8) (k : post (-3) (Xdc, Xml, nI MN, nI AL, Xpr, nI nc, Xps, nI tp, Xsr, Xhi, Xwd, Xln, Xgc, Xpo, Xkd, Xmk, Xnu, Xfi, Xla, Xfo, Xac, Xhd, Xtl, Xmd, Xec, Xew, Xh1, Xh2)) : wpX_node post (Xdc, Xml, nI MN, nI AL, Xpr, nI nc, Xps, nI tp, Xsr, Xhi, Xwd, Xln, Xgc, Xpo, Xkd, Xmk, Xnu, Xfi, Xla, Xfo, Xac, Xhd, Xtl, Xmd, Xec, Xew, Xh1, Xh2) x y := by
  unfold wpX_node
  exact xr_ok (Xmn := nI MN) (Xnc := nI nc) (Xtp := nI tp) hA h (xr_deep hM hf h2 ht ht' (br_f (by decide) k))
theorem xn_short2 {post : Int32 → SX → Prop} (hA : AL ≤ 6) (h : ¬ nd_bad x y AL) (hM : MN ≤ 24) (hf : nc < MN) (h2 : 2 < x) (h4 : ¬ 4 < x) (ht : tp < 2) (k : post (-4) (Xdc, Xml, nI MN, nI AL, Xpr, nI nc, Xps, nI tp, Xsr, Xhi, Xwd, Xln, Xgc, Xpo, Xkd, Xmk, Xnu, Xfi, Xla, Xfo, Xac, Xhd, Xtl, Xmd, Xec, Xew, Xh1, Xh2)) : wpX_node post (Xdc, Xml, nI MN, nI AL, Xpr, nI nc, Xps, nI tp, Xsr, Xhi, Xwd, Xln, Xgc, Xpo, Xkd, Xmk, Xnu, Xfi, Xla, Xfo, Xac, Xhd, Xtl, Xmd, Xec, Xew, Xh1, Xh2) x y := by
  unfold wpX_node
  exact xr_ok (Xmn := nI MN) (Xnc := nI nc) (Xtp := nI tp) hA h (xr_bin_f hM hf h2 h4 ht (br_f (by decide) k))
theorem xn_short1 {post : Int32 → SX → Prop} (hA : AL ≤ 6) (h : ¬ nd_bad x y AL) (hM : MN ≤ 24) (hf : nc < MN) (h4 : 4 < x) (ht : tp < 1) (k : post (-4) (Xdc, Xml, nI MN, nI AL, Xpr, nI nc, Xps, nI tp, Xsr, Xhi, Xwd, Xln, Xgc, Xpo, Xkd, Xmk, Xnu, Xfi, Xla, Xfo, Xac, Xhd, Xtl, Xmd, Xec, Xew, Xh1, Xh2)) : wpX_node post (Xdc, Xml, nI MN, nI AL, Xpr, nI nc, Xps, nI tp, Xsr, Xhi, Xwd, Xln, Xgc, Xpo, Xkd, Xmk, Xnu, Xfi, Xla, Xfo, Xac, Xhd, Xtl, Xmd, Xec, Xew, Xh1, Xh2) x y := by
  unfold wpX_node
  exact xr_ok (Xmn := nI MN) (Xnc := nI nc) (Xtp := nI tp) hA h (xr_un_f hM hf (nd_2lt h4) h4 ht (br_f (by decide) k))
theorem xn_rloop {post : Int32 → SX → Prop} {A : Nat → Int32} (k : ∀ ac, (∀ c, c < 6 → ac c = 0) → (∀ c, 6 ≤ c → ac c = A c) → post x (Xdc, Xml, Xmn, Xal, Xpr, Xnc, Xps, Xtp, Xsr, Xhi, Xwd, Xln, Xgc, Xpo, Xkd, Xmk, Xnu, Xfi, Xla, Xfo, ac, Xhd, Xtl, Xmd, Xec, Xew, Xh1, Xh2)) :
    ∀ (n i : Nat) (ac : Nat → Int32), i ≤ 6 → 6 - i < n → (∀ c, c < i → ac c = 0) → (∀ c, 6 ≤ c → ac c = A c) → wX_reset_22 post x Xdc Xml Xmn Xal Xpr Xnc Xps Xtp Xsr Xhi n (nI i) Xwd Xln Xgc Xpo Xkd Xmk Xnu Xfi Xla Xfo ac Xhd Xtl Xmd Xec Xew Xh1 Xh2 := by
  intro n
  induction n with
  | zero => intro i ac _ h; exact absurd h (by omega)
  | succ n ih =>
    intro i ac hi hn h1 h2
    unfold wX_reset_22
    by_cases e : i = 6
    · subst e
      exact br_t (by decide) (k ac h1 h2)
    · refine br_f (nI_ge (b := 6) (by omega) (by omega)) ⟨vp_in_nI (by omega) (by omega), nm_r (e' := upd ac i 0) (by rw [nI_clamp (by omega)]) (nm_r (nI_1 i) (ih (i + 1) _ (by omega) (by omega) ?_ ?_))⟩
      · intro c hc
        by_cases ec : c = i
        · rw [ec, pk_us]
        · rw [pk_un ec]; exact h1 c (by omega)
      · intro c hc
        rw [pk_un (by omega)]; exact h2 c hc
theorem xn_reset {post : Int32 → SX → Prop} (k : ∀ ac, (∀ c, c < 6 → ac c = 0) → (∀ c, 6 ≤ c → ac c = Xac c) → post Xnc (Xdc, Xml, Xmn, Xal, Xpr, 0, 0, 0, Xsr, Xhi, Xwd, Xln, Xgc, Xpo, Xkd, Xmk, Xnu, Xfi, Xla, Xfo, ac, Xhd, Xtl, Xmd, Xec, Xew, Xh1, Xh2)) : wpX_reset post (Xdc, Xml, Xmn, Xal, Xpr, Xnc, Xps, Xtp, Xsr, Xhi, Xwd, Xln, Xgc, Xpo, Xkd, Xmk, Xnu, Xfi, Xla, Xfo, Xac, Xhd, Xtl, Xmd, Xec, Xew, Xh1, Xh2) := by
  unfold wpX_reset
  exact ⟨7, xn_rloop (A := Xac) (Xnc := 0) (Xps := 0) (Xtp := 0) k 7 0 Xac (by omega) (by omega) (fun c h => absurd h (by omega)) (fun _ _ => rfl)⟩
end
/-- every node so far was accepted -/
def nd_V (K : Nat → Int32) (nc : Nat) : Prop :=
  ∀ i, i < nc → (¬ 2 < K i → aa_dep K i < 8) ∧ (2 < K i → ¬ 4 < K i → 2 ≤ aa_dep K i) ∧ (4 < K i → 1 ≤ aa_dep K i)
theorem nd_V8 {K : Nat → Int32} {nc : Nat} (h : nd_V K nc) : ∀ i, i ≤ nc → aa_dep K i ≤ 8
  | 0, _ => Nat.zero_le _
  | i + 1, hi => by
    have ih := nd_V8 h i (by omega)
    have hv := h i (by omega)
    by_cases h2 : 2 < K i
    · by_cases h4 : 4 < K i
      · rw [aa_dep_un h2 h4]; exact ih
      · rw [aa_dep_bin h2 h4]; omega
    · rw [aa_dep_leaf h2]
      have := hv.1 h2; omega
theorem nd_Vup {K : Nat → Int32} {nc : Nat} {x : Int32} (h : nd_V K nc) (hl : ¬ 2 < x → aa_dep K nc < 8) (hb : 2 < x → ¬ 4 < x → 2 ≤ aa_dep K nc) (hu : 4 < x → 1 ≤ aa_dep K nc) : nd_V (upd K nc x) (nc + 1) := by
  intro i hi
  have e : aa_dep (upd K nc x) i = aa_dep K i := aa_dep_congr (fun j hj => pk_un (by omega))
  rw [e]
  by_cases ei : i = nc
  · rw [ei, pk_us]; exact ⟨hl, hb, hu⟩
  · rw [pk_un ei]; exact h i (by omega)
section
variable {Ydc Yml Ymn Yal Ync Ysr : Int32} {Ypr Ysz Ywd Ykd Yar Yhi Yh1 Yh2 Yrl : Nat → Int32}
variable {AL MN nc tp : Nat} {x y : Int32}
theorem yn_dl {post : Int32 → Prop} (hn : nc ≤ 24) (hV : nd_V Ykd nc) (k : post (nI (aa_dep Ykd nc))) : ∀ (n i : Nat), i ≤ nc → nc - i < n → wY_depth_4 post Ydc Yml Ymn Yal (nI nc) Ysr Ypr Ysz Ywd Ykd Yar Yhi Yh1 Yh2 Yrl n (nI (aa_dep Ykd i)) (nI i) := by
  intro n
  induction n with
  | zero => intro i _ h; exact absurd h (by omega)
  | succ n ih =>
    intro i hi hm
    unfold wY_depth_4
    by_cases e : i = nc
    · subst e
      exact br_t (nI_le (Nat.le_refl _) (by omega)) k
    · have v : vp_in (nI i) 24 := vp_in_nI (by omega) (by omega)
      have hv := hV i (by omega)
      have hr := ih (i + 1) (by omega) (by omega)
      refine br_f (nI_ge (by omega) (by omega)) ⟨v, ?_⟩
      rw [nI_clamp (by omega)]
      refine br_c (fun h2 => ⟨v, br_c (fun h4 => ?_) (fun h4 => ?_)⟩) (fun h2 => ?_)
      · rw [aa_dep_un h2 h4] at hr
        exact nm_r (Int32.add_zero _) (nm_r (nI_1 i) hr)
      · rw [aa_dep_bin h2 h4] at hr
        exact nm_r (ag_m1 (by have := hv.2.1 h2 h4; omega)) (nm_r (nI_1 i) hr)
      · rw [aa_dep_leaf h2] at hr
        exact nm_r (nI_1 _) (nm_r (nI_1 i) hr)
theorem yn_depth {post : Int32 → Prop} (hn : nc ≤ 24) (hV : nd_V Ykd nc) (k : post (nI (aa_dep Ykd nc))) : wpY_depth post (Ydc, Yml, Ymn, Yal, nI nc, Ysr, Ypr, Ysz, Ywd, Ykd, Yar, Yhi, Yh1, Yh2, Yrl) := by
  unfold wpY_depth
  exact ⟨nc + 1, yn_dl hn hV k (nc + 1) 0 (by omega) (by omega)⟩
theorem yn_bad {post : Int32 → SY → Prop} (hA : AL ≤ 6) (h : nd_bad x y AL) (k : post (-1) (Ydc, Yml, Ymn, nI AL, Ync, Ysr, Ypr, Ysz, Ywd, Ykd, Yar, Yhi, Yh1, Yh2, Yrl)) : wpY_node post (Ydc, Yml, Ymn, nI AL, Ync, Ysr, Ypr, Ysz, Ywd, Ykd, Yar, Yhi, Yh1, Yh2, Yrl) x y := by
  unfold wpY_node
  refine br_c (fun _ => k) (fun h0 => br_c (fun h7 => ?_) (fun _ => k))
  have k27 : (x = 2 ∧ (y < 0 ∨ ¬ y < (1 : Int32) <<< (nI AL &&& 31))) → wY_node_27 post x y Ydc Yml Ymn (nI AL) Ync Ysr Ypr Ysz Ywd Ykd Yar Yhi Yh1 Yh2 Yrl := by
    intro h
    unfold wY_node_27
    refine br_t h.1 (br_c (fun _ => k) (fun h1 => br_f ?_ k))
    exact h.2.elim (fun z => absurd z h1) id
  have h' := (h.resolve_left h0).resolve_left (fun z => z h7)
  refine br_c (fun h1 => ?_) (fun h1 => ?_)
  · rcases h' with h' | h'
    · exact yw_noLetter_f (by omega) h'.2 (br_f (by decide) k)
    · exact absurd (h'.1.symm.trans h1) (by decide)
  · exact k27 (h'.resolve_left (fun z => h1 z.1))
theorem yn_ok1 {post : Int32 → SY → Prop} (hA : AL ≤ 6) (h : ¬ nd_bad x y AL) (k : wY_node_48 post x y Ydc Yml Ymn (nI AL) Ync Ysr Ypr Ysz Ywd Ykd Yar Yhi Yh1 Yh2 Yrl) : wpY_node post (Ydc, Yml, Ymn, nI AL, Ync, Ysr, Ypr, Ysz, Ywd, Ykd, Yar, Yhi, Yh1, Yh2, Yrl) x y := by
  have h0 : ¬ x < 0 := fun z => h (Or.inl z)
  have h7 : x ≤ 7 := Classical.byContradiction (fun z => h (Or.inr (Or.inl z)))
  have k27 : wY_node_27 post x y Ydc Yml Ymn (nI AL) Ync Ysr Ypr Ysz Ywd Ykd Yar Yhi Yh1 Yh2 Yrl := by
    unfold wY_node_27
    refine br_c (fun h2 => br_f (fun z => h (Or.inr (Or.inr (Or.inr ⟨h2, Or.inl z⟩)))) (br_t ?_ k)) (fun _ => k)
    exact Classical.byContradiction (fun z => h (Or.inr (Or.inr (Or.inr ⟨h2, Or.inr z⟩))))
  unfold wpY_node
  refine br_f h0 (br_t h7 (br_c (fun h1 => ?_) (fun _ => k27)))
  obtain ⟨a, ha, e⟩ : ∃ a, a < AL ∧ y = nI a := Classical.byContradiction (fun z => h (Or.inr (Or.inr (Or.inl ⟨h1, z⟩))))
  subst e
  exact yw_noLetter_t (by omega) ha (br_t rfl k27)
theorem yn_full {post : Int32 → SY → Prop} (hA : AL ≤ 6) (h : ¬ nd_bad x y AL) (hM : MN ≤ 24) (hn : nc ≤ 24) (hf : ¬ nc < MN) (k : post (-2) (Ydc, Yml, nI MN, nI AL, nI nc, Ysr, Ypr, Ysz, Ywd, Ykd, Yar, Yhi, Yh1, Yh2, Yrl)) : wpY_node post (Ydc, Yml, nI MN, nI AL, nI nc, Ysr, Ypr, Ysz, Ywd, Ykd, Yar, Yhi, Yh1, Yh2, Yrl) x y := by
  refine yn_ok1 (Ymn := nI MN) (Ync := nI nc) hA h ?_
  unfold wY_node_48
  exact br_f (nI_nlt (by omega) (by omega)) k
theorem yn_deep {post : Int32 → SY → Prop} (hA : AL ≤ 6) (h : ¬ nd_bad x y AL) (hM : MN ≤ 24) (hf : nc < MN) (hV : nd_V Ykd nc) (h2 : ¬ 2 < x) (ht : aa_dep Ykd nc = 8) (k : post (-3) (Ydc, Yml, nI MN, nI AL, nI nc, Ysr, Ypr, Ysz, Ywd, Ykd, Yar, Yhi, Yh1, Yh2, Yrl)) : wpY_node post (Ydc, Yml, nI MN, nI AL, nI nc, Ysr, Ypr, Ysz, Ywd, Ykd, Yar, Yhi, Yh1, Yh2, Yrl) x y := by
  refine yn_ok1 (Ymn := nI MN) (Ync := nI nc) hA h ?_
  unfold wY_node_48
  refine br_t (nI_lt hf (by omega)) (yn_depth (Ymn := nI MN) (Yal := nI AL) (by omega) hV ?_)
  rw [ht]
  exact br_f h2 (br_f (nI_nlt (b := 8) (Nat.le_refl _) (by omega)) k)
theorem yn_short2 {post : Int32 → SY → Prop} (hA : AL ≤ 6) (h : ¬ nd_bad x y AL) (hM : MN ≤ 24) (hf : nc < MN) (hV : nd_V Ykd nc) (h2 : 2 < x) (h4 : ¬ 4 < x) (ht : aa_dep Ykd nc < 2) (k : post (-4) (Ydc, Yml, nI MN, nI AL, nI nc, Ysr, Ypr, Ysz, Ywd, Ykd, Yar, Yhi, Yh1, Yh2, Yrl)) : wpY_node post (Ydc, Yml, nI MN, nI AL, nI nc, Ysr, Ypr, Ysz, Ywd, Ykd, Yar, Yhi, Yh1, Yh2, Yrl) x y := by
  refine yn_ok1 (Ymn := nI MN) (Ync := nI nc) hA h ?_
  unfold wY_node_48
  refine br_t (nI_lt hf (by omega)) (yn_depth (Ymn := nI MN) (Yal := nI AL) (by omega) hV (br_t h2 ?_))
  have k91 : wY_node_91 post x y (nI (aa_dep Ykd nc)) Ydc Yml (nI MN) (nI AL) (nI nc) Ysr Ypr Ysz Ywd Ykd Yar Yhi Yh1 Yh2 Yrl := by
    unfold wY_node_91
    exact br_f (nI_ge (b := 2) ht (by omega)) k
  unfold wY_node_81
  exact br_c (fun _ => k91) (fun z3 => br_c (fun _ => k91) (fun z4 => absurd (nd_34 h2 h4) (fun z => z.elim z3 z4)))
theorem yn_81 {post : Int32 → SY → Prop} {z : Int32} (h7 : 2 < x → ¬ 4 < x → 2 ≤ z) (k : wY_node_99 post x y z Ydc Yml Ymn Yal Ync Ysr Ypr Ysz Ywd Ykd Yar Yhi Yh1 Yh2 Yrl) : wY_node_81 post x y z Ydc Yml Ymn Yal Ync Ysr Ypr Ysz Ywd Ykd Yar Yhi Yh1 Yh2 Yrl := by
  have k91 : (2 < x ∧ ¬ 4 < x) → wY_node_91 post x y z Ydc Yml Ymn Yal Ync Ysr Ypr Ysz Ywd Ykd Yar Yhi Yh1 Yh2 Yrl := by
    intro h
    unfold wY_node_91
    exact br_t (h7 h.1 h.2) k
  unfold wY_node_81
  exact br_c (fun e => k91 (by rw [e]; exact ⟨by decide, by decide⟩)) (fun _ => br_c (fun e => k91 (by rw [e]; exact ⟨by decide, by decide⟩)) (fun _ => k))
theorem yn_short1 {post : Int32 → SY → Prop} (hA : AL ≤ 6) (h : ¬ nd_bad x y AL) (hM : MN ≤ 24) (hf : nc < MN) (hV : nd_V Ykd nc) (h4 : 4 < x) (ht : aa_dep Ykd nc < 1) (k : post (-4) (Ydc, Yml, nI MN, nI AL, nI nc, Ysr, Ypr, Ysz, Ywd, Ykd, Yar, Yhi, Yh1, Yh2, Yrl)) : wpY_node post (Ydc, Yml, nI MN, nI AL, nI nc, Ysr, Ypr, Ysz, Ywd, Ykd, Yar, Yhi, Yh1, Yh2, Yrl) x y := by
  refine yn_ok1 (Ymn := nI MN) (Ync := nI nc) hA h ?_
  unfold wY_node_48
  refine br_t (nI_lt hf (by omega)) (yn_depth (Ymn := nI MN) (Yal := nI AL) (by omega) hV (br_t (nd_2lt h4) ?_))
  refine yn_81 (fun _ z => absurd h4 z) ?_
  unfold wY_node_99
  exact br_f (fun z => nd_lt5.mp z h4) (br_f (nI_ge (b := 1) ht (by omega)) k)
theorem yn_ok {post : Int32 → SY → Prop} (hA : AL ≤ 6) (h : ¬ nd_bad x y AL) (hM : MN ≤ 24) (hf : nc < MN) (hV : nd_V Ykd nc)
    (hl : ¬ 2 < x → aa_dep Ykd nc < 8) (hb : 2 < x → ¬ 4 < x → 2 ≤ aa_dep Ykd nc) (hu : 4 < x → 1 ≤ aa_dep Ykd nc)
    (k : post (nI (aa_dep (upd Ykd nc x) (nc + 1))) (Ydc, Yml, nI MN, nI AL, nI (nc + 1), Ysr, Ypr, Ysz, Ywd, upd Ykd nc x, upd Yar nc y, Yhi, Yh1, Yh2, Yrl)) : wpY_node post (Ydc, Yml, nI MN, nI AL, nI nc, Ysr, Ypr, Ysz, Ywd, Ykd, Yar, Yhi, Yh1, Yh2, Yrl) x y := by
  have h8 := nd_V8 hV nc (Nat.le_refl _)
  have vn : vp_in (nI nc) 24 := vp_in_nI (by omega) (by omega)
  have ic : (nI nc).toNatClampNeg = nc := nI_clamp (by omega)
  have k112 : wY_node_112 post x y Ydc Yml (nI MN) (nI AL) (nI nc) Ysr Ypr Ysz Ywd Ykd Yar Yhi Yh1 Yh2 Yrl := by
    unfold wY_node_112
    rw [ic]
    refine ⟨vn, nm_e ⟨vn, nm_e (nm_r (nI_1 nc) ?_)⟩⟩
    exact yn_depth (Ymn := nI MN) (Yal := nI AL) (Ykd := upd Ykd nc x) (Yar := upd Yar nc y) (by omega) (nd_Vup hV hl hb hu) k
  have k99 : wY_node_99 post x y (nI (aa_dep Ykd nc)) Ydc Yml (nI MN) (nI AL) (nI nc) Ysr Ypr Ysz Ywd Ykd Yar Yhi Yh1 Yh2 Yrl := by
    unfold wY_node_99
    exact br_c (fun _ => k112) (fun z => br_t (nI_le (a := 1) (hu (Classical.byContradiction (fun w => z (nd_lt5.mpr w)))) (by omega)) k112)
  have k81 : wY_node_81 post x y (nI (aa_dep Ykd nc)) Ydc Yml (nI MN) (nI AL) (nI nc) Ysr Ypr Ysz Ywd Ykd Yar Yhi Yh1 Yh2 Yrl :=
    yn_81 (fun h2 h4 => nI_le (a := 2) (hb h2 h4) (by omega)) k99
  refine yn_ok1 (Ymn := nI MN) (Ync := nI nc) hA h ?_
  unfold wY_node_48
  refine br_t (nI_lt hf (by omega)) (yn_depth (Ymn := nI MN) (Yal := nI AL) (by omega) hV ?_)
  exact br_c (fun _ => k81) (fun h2 => br_t (nI_lt (b := 8) (hl h2) (by omega)) k81)
end
end
section
/-! ===== Y: evaluate ===== -/
def yv_H (rel : Nat → Int32) (x L : Nat) (A : Nat → Nat → Prop) : Prop := ∀ s, s ≤ L → ∀ e, (bt (rel (x * 13 + s)) e = true ↔ (e ≤ L ∧ A s e))
def yv_I (R rel : Nat → Int32) (k s L : Nat) (A : Nat → Nat → Prop) : Prop :=
  (∀ j, (∀ q, q < s → ¬ j = k * 13 + q) → rel j = R j) ∧ (∀ q, q < s → ∀ e, (bt (rel (k * 13 + q)) e = true ↔ (e ≤ L ∧ A q e)))
def yv_J (R rel : Nat → Int32) (k L : Nat) (P : Nat → Nat → Prop) : Prop :=
  (∀ j, (∀ q, q ≤ L → ¬ j = k * 13 + q) → rel j = R j) ∧ (∀ q, q ≤ L → ∀ e, (bt (rel (k * 13 + q)) e = true ↔ (e ≤ L ∧ P q e)))
section
variable {R rel : Nat → Int32} {k s L x : Nat} {A P P' : Nat → Nat → Prop} {r : Int32}
theorem yv_I0 : yv_I R R k 0 L A := ⟨fun _ _ => rfl, fun _ h => absurd h (by omega)⟩
theorem yv_Is (h : yv_I R rel k s L A) (hr : ∀ e, (bt r e = true ↔ (e ≤ L ∧ A s e))) : yv_I R (upd rel (k * 13 + s) r) k (s + 1) L A := by
  refine ⟨fun j hj => ?_, fun q hq e => ?_⟩
  · rw [pk_un (hj s (by omega))]
    exact h.1 j (fun q hq => hj q (by omega))
  · by_cases eq : q = s
    · rw [eq, pk_us]; exact hr e
    · rw [pk_un (by omega)]; exact h.2 q (by omega) e
theorem yv_IJ (h : yv_I R rel k (L + 1) L A) : yv_J R rel k L A :=
  ⟨fun j hj => h.1 j (fun q hq => hj q (by omega)), fun q hq => h.2 q (by omega)⟩
theorem yv_JH (h : yv_J R rel k L A) : yv_H rel k L A := fun s hs e => h.2 s hs e
theorem yv_Jo (h : yv_J R rel k L A) (hL : L ≤ 12) (hx : ¬ x = k) {B : Nat → Nat → Prop} (hB : yv_H R x L B) : yv_H rel x L B := by
  intro s hs e
  rw [h.1 (x * 13 + s) (fun q hq => by omega)]
  exact hB s hs e
theorem yv_J0 (h : yv_H R k L A) : yv_J R R k L A := ⟨fun _ _ => rfl, fun q hq e => h q hq e⟩
theorem yv_Ju (h : yv_J R rel k L P) (hs : s ≤ L) (hr : ∀ e, (bt r e = true ↔ (e ≤ L ∧ P' s e))) (hP : ∀ q e, ¬ q = s → (P q e ↔ P' q e)) : yv_J R (upd rel (k * 13 + s) r) k L P' := by
  refine ⟨fun j hj => ?_, fun q hq e => ?_⟩
  · rw [pk_un (hj s hs)]
    exact h.1 j hj
  · by_cases eq : q = s
    · rw [eq, pk_us]; exact hr e
    · rw [pk_un (by omega), ← hP q e eq]; exact h.2 q hq e
theorem yv_Jc (h : yv_J R rel k L P) (hP : ∀ q e, q ≤ L → e ≤ L → (P q e ↔ P' q e)) : yv_J R rel k L P' :=
  ⟨h.1, fun q hq e => (h.2 q hq e).trans ⟨fun z => ⟨z.1, (hP q e hq z.1).mp z.2⟩, fun z => ⟨z.1, (hP q e hq z.1).mpr z.2⟩⟩⟩
end
/-! Warshall -/
def yv_Wa (A : Nat → Nat → Prop) : Nat → Nat → Nat → Prop
  | 0, s, e => A s e
  | m + 1, s, e => yv_Wa A m s e ∨ (yv_Wa A m s m ∧ yv_Wa A m m e)
section
variable {A : Nat → Nat → Prop}
theorem yv_wa_in : ∀ (m : Nat) {s e : Nat}, A s e → yv_Wa A m s e
  | 0, _, _, h => h
  | m + 1, _, _, h => Or.inl (yv_wa_in m h)
theorem yv_wa_pl : ∀ (m : Nat) {s e : Nat}, yv_Wa A m s e → aa_pl A s e
  | 0, _, _, h => aa_pl_1 h
  | m + 1, _, _, h => h.elim (fun z => yv_wa_pl m z) (fun z => aa_pl_trans (yv_wa_pl m z.1) (yv_wa_pl m z.2))
theorem yv_wa_tr : ∀ (m : Nat) {q s e : Nat}, q < m → yv_Wa A m s q → yv_Wa A m q e → yv_Wa A m s e
  | 0, _, _, _, h, _, _ => absurd h (by omega)
  | m + 1, q, s, e, h, h1, h2 => by
    by_cases eq : q = m
    · subst eq
      have a : yv_Wa A q s q := h1.elim id (fun z => z.1)
      have b : yv_Wa A q q e := h2.elim id (fun z => z.2)
      exact Or.inr ⟨a, b⟩
    · have hq : q < m := by omega
      rcases h1 with h1 | h1 <;> rcases h2 with h2 | h2
      · exact Or.inl (yv_wa_tr m hq h1 h2)
      · exact Or.inr ⟨yv_wa_tr m hq h1 h2.1, h2.2⟩
      · exact Or.inr ⟨h1.1, yv_wa_tr m hq h1.2 h2⟩
      · exact Or.inr ⟨h1.1, h2.2⟩
theorem yv_wa_fin (hA : ∀ s e, A s e → s ≤ e) {L s e : Nat} (he : e ≤ L) : yv_Wa A (L + 1) s e ↔ aa_pl A s e := by
  constructor
  · exact yv_wa_pl _
  · intro h
    have key : s ≤ e ∧ (e ≤ L → yv_Wa A (L + 1) s e) := by
      refine aa_pl_least (S := fun s e => s ≤ e ∧ (e ≤ L → yv_Wa A (L + 1) s e)) ?_ ?_ h
      · intro a b hab
        exact ⟨hA a b hab, fun _ => yv_wa_in _ hab⟩
      · intro a b c hab hbc
        have := hA a b hab
        exact ⟨by omega, fun hc => yv_wa_tr _ (by omega) (yv_wa_in _ hab) (hbc.2 hc)⟩
    exact key.2 he
end
section
variable {Ydc Yml Ymn Yal Ync Ysr : Int32} {Ypr Ysz Ywd Ykd Yar Yhi Yh1 Yh2 Yrl : Nat → Int32}
variable {k s L d AL : Nat}
theorem yl_row {post : SY → Prop} {J : Int32 → (Nat → Int32) → (Nat → Int32) → (Nat → Int32) → (Nat → Int32) → (Nat → Int32) → (Nat → Int32) → (Nat → Int32) → (Nat → Int32) → (Nat → Int32) → Prop}
    {kd ar mk z : Int32} (hd : d < 8) (hs : s ≤ L) (hL : L ≤ 12) (el : Ysz d = nI L) (hw : rl_W Ywd AL) (hA : AL ≤ 6)
    (h1 : kd = 1 → ∃ a, a < AL ∧ ar = nI a ∧ ∀ c, bt mk c = true ↔ c = a) (h2 : kd = 2 → ar = mk) (h012 : kd = 0 ∨ kd = 1 ∨ kd = 2)
    (hz : kd = 0 → z = (1 : Int32) <<< (nI s &&& 31)) (hz' : ¬ kd = 0 → z = 0)
    (kk : ∀ r, (∀ e, (bt r e = true ↔ (e ≤ L ∧ aa_leaf (rl_t Ywd d) kd mk s e))) → wY_leaf_117 post J (nI k) kd ar (nI d) (nI s) r Ydc Yml Ymn Yal Ync Ysr Ypr Ysz Ywd Ykd Yar Yhi Yh1 Yh2 Yrl) :
    wY_leaf_27 post J (nI k) kd ar (nI d) (nI s) z Ydc Yml Ymn Yal Ync Ysr Ypr Ysz Ywd Ykd Yar Yhi Yh1 Yh2 Yrl := by
  have v8 : vp_in (nI d) 8 := vp_in_nI (by omega) (by omega)
  have ic : (nI d).toNatClampNeg = d := nI_clamp (by omega)
  have iw : (nI d * 12 + nI s).toNatClampNeg = d * 12 + s := by rw [ax_m12, nI_add, nI_clamp (by omega)]
  have vw : s < L → vp_in (nI d * 12 + nI s) 96 := by
    intro h
    rw [ax_m12, nI_add]; exact vp_in_nI (by omega) (by omega)
  have ht := rl_6 hw hA d s
  have one : bt mk (rl_t Ywd d s) = true → ¬ kd = 0 → s < L → ∀ e, (bt ((1 : Int32) <<< (nI (s + 1) &&& 31)) e = true ↔ (e ≤ L ∧ aa_leaf (rl_t Ywd d) kd mk s e)) := by
    intro hm h0 hsl e
    rw [ab_one (by omega), decide_eq_true_iff]
    constructor
    · intro h
      exact ⟨by omega, Or.inr ⟨h0, h, hm⟩⟩
    · intro h
      rcases h.2 with y | y
      · exact absurd y.1 h0
      · exact y.2.1
  have zer : ¬ kd = 0 → (s < L → ¬ bt mk (rl_t Ywd d s) = true) → ∀ e, (bt (0 : Int32) e = true ↔ (e ≤ L ∧ aa_leaf (rl_t Ywd d) kd mk s e)) := by
    intro h0 hm e
    constructor
    · intro h
      exact absurd h ab_zz
    · intro h
      rcases h.2 with y | y
      · exact absurd y.1 h0
      · exact absurd y.2.2 (hm (by omega))
  rcases h012 with e | e | e
  · subst e
    unfold wY_leaf_27
    refine br_f (by decide) ?_
    unfold wY_leaf_71
    refine br_f (by decide) (kk z ?_)
    intro e
    rw [hz rfl, ab_one (by omega), decide_eq_true_iff]
    constructor
    · intro h
      exact ⟨by omega, Or.inl ⟨rfl, h⟩⟩
    · intro h
      rcases h.2 with y | y
      · exact y.2
      · exact absurd rfl y.1
  · subst e
    obtain ⟨a, ha, ea, hm⟩ := h1 rfl
    have k71 : ∀ r, (∀ e, (bt r e = true ↔ (e ≤ L ∧ aa_leaf (rl_t Ywd d) 1 mk s e))) → wY_leaf_71 post J (nI k) 1 ar (nI d) (nI s) r Ydc Yml Ymn Yal Ync Ysr Ypr Ysz Ywd Ykd Yar Yhi Yh1 Yh2 Yrl := by
      intro r hr
      unfold wY_leaf_71
      exact br_f (by decide) (kk r hr)
    unfold wY_leaf_27
    rw [ic, iw, el, nI_1]
    refine br_t rfl ⟨v8, ?_⟩
    by_cases hsl : s < L
    · refine br_f (nI_ge hsl (by omega)) ⟨vw hsl, ?_⟩
      have iff : Ywd (d * 12 + s) = ar ↔ bt mk (rl_t Ywd d s) = true := by
        rw [rl_e hw hA, ea, nI_eq (by omega) (by omega), hm]
      refine br_c (fun h => nm_e (k71 _ (one (iff.mp h) (by decide) hsl))) (fun h => ?_)
      rw [hz' (by decide)]
      exact k71 _ (zer (by decide) (fun _ y => h (iff.mpr y)))
    · refine br_t (nI_le (by omega) (by omega)) ?_
      rw [hz' (by decide)]
      exact k71 _ (zer (by decide) (fun y => absurd y hsl))
  · subst e
    have ea := h2 rfl
    unfold wY_leaf_27
    refine br_f (by decide) ?_
    unfold wY_leaf_71
    rw [ic, iw, el, nI_1]
    refine br_t rfl ⟨v8, ?_⟩
    by_cases hsl : s < L
    · refine br_f (nI_ge hsl (by omega)) ⟨vw hsl, ?_⟩
      rw [rl_e hw hA]
      have iff : ((ar >>> (nI (rl_t Ywd d s) &&& 31)) &&& 1) = 1 ↔ bt mk (rl_t Ywd d s) = true := by
        rw [ea]; exact ab_t1 _ (by omega)
      refine br_c (fun h => nm_e (kk _ (one (iff.mp h) (by decide) hsl))) (fun h => ?_)
      rw [hz' (by decide)]
      exact kk _ (zer (by decide) (fun _ y => h (iff.mpr y)))
    · refine br_t (nI_le (by omega) (by omega)) ?_
      rw [hz' (by decide)]
      exact kk _ (zer (by decide) (fun y => absurd y hsl))
theorem yl_loop {post : SY → Prop} {kd ar mk : Int32} {R : Nat → Int32} (hk : k < 8) (hd : d < 8) (hL : L ≤ 12) (el : Ysz d = nI L) (hw : rl_W Ywd AL) (hA : AL ≤ 6)
    (h1 : kd = 1 → ∃ a, a < AL ∧ ar = nI a ∧ ∀ c, bt mk c = true ↔ c = a) (h2 : kd = 2 → ar = mk) (h012 : kd = 0 ∨ kd = 1 ∨ kd = 2)
    (kk : ∀ rel, yv_J R rel k L (aa_leaf (rl_t Ywd d) kd mk) → post (Ydc, Yml, Ymn, Yal, Ync, Ysr, Ypr, Ysz, Ywd, Ykd, Yar, Yhi, Yh1, Yh2, rel)) :
    ∀ (n s : Nat) (rel : Nat → Int32), s ≤ L + 1 → L + 1 - s < n → yv_I R rel k s L (aa_leaf (rl_t Ywd d) kd mk) → wY_leaf_3 post (nI k) kd ar (nI d) Ydc Yml Ymn Yal Ync Ysr n (nI s) Ypr Ysz Ywd Ykd Yar Yhi Yh1 Yh2 rel := by
  intro n
  have v8 : vp_in (nI d) 8 := vp_in_nI (by omega) (by omega)
  have ic : (nI d).toNatClampNeg = d := nI_clamp (by omega)
  induction n with
  | zero => intro s rel _ h; exact absurd h (by omega)
  | succ n ih =>
    intro s rel hs hn hI
    unfold wY_leaf_3
    refine ⟨v8, ?_⟩
    rw [ic, el]
    by_cases e : s = L + 1
    · subst e
      exact br_t (nI_lt (by omega) (by omega)) (kk rel (yv_IJ hI))
    · have fin : ∀ r, (∀ e, (bt r e = true ↔ (e ≤ L ∧ aa_leaf (rl_t Ywd d) kd mk s e))) → wY_leaf_117 post (wY_leaf_3 post (nI k) kd ar (nI d) Ydc Yml Ymn Yal Ync Ysr n) (nI k) kd ar (nI d) (nI s) r Ydc Yml Ymn Yal Ync Ysr Ypr Ysz Ywd Ykd Yar Yhi Yh1 Yh2 rel := by
        intro r hr
        unfold wY_leaf_117
        rw [ax_m13, nI_add, nI_clamp (by omega)]
        exact ⟨vp_in_nI (by omega) (by omega), nm_e (nm_r (nI_1 s) (ih (s + 1) _ (by omega) (by omega) (yv_Is hI hr)))⟩
      refine br_f (nI_nlt (by omega) (by omega)) (br_c (fun h0 => ?_) (fun h0 => ?_))
      · exact yl_row (Yrl := rel) hd (by omega) hL el hw hA h1 h2 h012 (fun _ => rfl) (fun z => absurd h0 z) fin
      · exact yl_row (Yrl := rel) hd (by omega) hL el hw hA h1 h2 h012 (fun z => absurd z h0) (fun _ => rfl) fin
theorem yl_leaf {post : SY → Prop} {kd ar mk : Int32} (hk : k < 8) (hd : d < 8) (hL : L ≤ 12) (el : Ysz d = nI L) (hw : rl_W Ywd AL) (hA : AL ≤ 6)
    (h1 : kd = 1 → ∃ a, a < AL ∧ ar = nI a ∧ ∀ c, bt mk c = true ↔ c = a) (h2 : kd = 2 → ar = mk) (h012 : kd = 0 ∨ kd = 1 ∨ kd = 2)
    (kk : ∀ rel, yv_J Yrl rel k L (aa_leaf (rl_t Ywd d) kd mk) → post (Ydc, Yml, Ymn, Yal, Ync, Ysr, Ypr, Ysz, Ywd, Ykd, Yar, Yhi, Yh1, Yh2, rel)) : wpY_leaf post (Ydc, Yml, Ymn, Yal, Ync, Ysr, Ypr, Ysz, Ywd, Ykd, Yar, Yhi, Yh1, Yh2, Yrl) (nI k) kd ar (nI d) := by
  unfold wpY_leaf
  exact ⟨L + 2, yl_loop hk hd hL el hw hA h1 h2 h012 kk (L + 2) 0 Yrl (by omega) (by omega) yv_I0⟩
theorem yj_in {post : SY → Prop} {J : Int32 → (Nat → Int32) → (Nat → Int32) → (Nat → Int32) → (Nat → Int32) → (Nat → Int32) → (Nat → Int32) → (Nat → Int32) → (Nat → Int32) → (Nat → Int32) → Prop}
    {A B : Nat → Nat → Prop} {x5 : Int32} (hk : k + 1 < 8) (hL : L ≤ 12) (hB : ∀ s e, B s e → s ≤ e)
    (hx : ∀ e, (bt x5 e = true ↔ (e ≤ L ∧ A s e))) (hr : ∀ q, q ≤ L → ∀ e, (bt (Yrl (k * 13 + 13 + q)) e = true ↔ (e ≤ L ∧ B q e)))
    (kk : ∀ r, (∀ e, (bt r e = true ↔ (e ≤ L ∧ aa_bin 3 A B s e))) → wY_join_103 post J (nI k) 3 (nI L) (nI s) r Ydc Yml Ymn Yal Ync Ysr Ypr Ysz Ywd Ykd Yar Yhi Yh1 Yh2 Yrl) :
    ∀ (n m : Nat) (row : Int32), m ≤ L + 1 → L + 1 - m < n → (∀ e, (bt row e = true ↔ (e ≤ L ∧ ∃ q, q < m ∧ A s q ∧ B q e))) → wY_join_55 post J (nI k) 3 (nI L) (nI s) x5 Ydc Yml Ymn Yal Ync Ysr Ypr Ysz Ywd Ykd Yar Yhi Yh1 Yh2 Yrl n row (nI m) := by
  intro n
  induction n with
  | zero => intro m row _ h; exact absurd h (by omega)
  | succ n ih =>
    intro m row hm hn hI
    unfold wY_join_55
    refine br_t rfl ?_
    by_cases e : m = L + 1
    · subst e
      refine br_t (nI_lt (by omega) (by omega)) (kk row ?_)
      intro e
      rw [hI e]
      constructor
      · intro h
        obtain ⟨he, q, _, h1, h2⟩ := h
        exact ⟨he, Or.inr ⟨by decide, q, h1, h2⟩⟩
      · intro h
        obtain ⟨he, h⟩ := h
        rcases h with h | h
        · exact absurd h.1 (by decide)
        · obtain ⟨_, q, h1, h2⟩ := h
          have := hB q e h2
          exact ⟨he, q, by omega, h1, h2⟩
    · refine br_f (nI_nlt (by omega) (by omega)) ?_
      rw [ax_m13, ax_a13, nI_add, nI_clamp (by omega)]
      refine br_c (fun h => ⟨vp_in_nI (by omega) (by omega), nm_e (nm_r (nI_1 m) (ih (m + 1) _ (by omega) (by omega) ?_))⟩) (fun h => nm_r (nI_1 m) (ih (m + 1) row (by omega) (by omega) ?_))
      · have hb := (hx m).mp ((ab_t1 _ (by omega)).mp h)
        intro e
        rw [ab_orI, hI e, hr m (by omega) e]
        constructor
        · intro h
          rcases h with h | h
          · obtain ⟨he, q, h0, h1⟩ := h
            exact ⟨he, q, by omega, h1⟩
          · exact ⟨h.1, m, by omega, hb.2, h.2⟩
        · intro h
          obtain ⟨he, q, h0, h1⟩ := h
          by_cases eq : q = m
          · subst eq
            exact Or.inr ⟨he, h1.2⟩
          · exact Or.inl ⟨he, q, by omega, h1⟩
      · have hb : ¬ A s m := fun z => h ((ab_t1 _ (by omega)).mpr ((hx m).mpr ⟨by omega, z⟩))
        intro e
        rw [hI e]
        constructor
        · intro h
          obtain ⟨he, q, h0, h1⟩ := h
          exact ⟨he, q, by omega, h1⟩
        · intro h
          obtain ⟨he, q, h0, h1⟩ := h
          have : ¬ q = m := fun z => hb (z ▸ h1.1)
          exact ⟨he, q, by omega, h1⟩
theorem yj_loop {post : SY → Prop} {kd : Int32} {A B : Nat → Nat → Prop} {R : Nat → Int32} (hk : k + 1 < 8) (hL : L ≤ 12) (hB : ∀ s e, B s e → s ≤ e) (h34 : kd = 3 ∨ kd = 4)
    (hRA : yv_H R k L A) (hRB : yv_H R (k + 1) L B)
    (kk : ∀ rel, yv_J R rel k L (aa_bin kd A B) → post (Ydc, Yml, Ymn, Yal, Ync, Ysr, Ypr, Ysz, Ywd, Ykd, Yar, Yhi, Yh1, Yh2, rel)) :
    ∀ (n s : Nat) (rel : Nat → Int32), s ≤ L + 1 → L + 1 - s < n → yv_I R rel k s L (aa_bin kd A B) → wY_join_3 post (nI k) kd (nI L) Ydc Yml Ymn Yal Ync Ysr n (nI s) Ypr Ysz Ywd Ykd Yar Yhi Yh1 Yh2 rel := by
  intro n
  induction n with
  | zero => intro s rel _ h; exact absurd h (by omega)
  | succ n ih =>
    intro s rel hs hn hI
    unfold wY_join_3
    by_cases e : s = L + 1
    · subst e
      exact br_t (nI_lt (by omega) (by omega)) (kk rel (yv_IJ hI))
    · have fin : ∀ r, (∀ e, (bt r e = true ↔ (e ≤ L ∧ aa_bin kd A B s e))) → wY_join_103 post (wY_join_3 post (nI k) kd (nI L) Ydc Yml Ymn Yal Ync Ysr n) (nI k) kd (nI L) (nI s) r Ydc Yml Ymn Yal Ync Ysr Ypr Ysz Ywd Ykd Yar Yhi Yh1 Yh2 rel := by
        intro r hr
        unfold wY_join_103
        rw [ax_m13, nI_add, nI_clamp (by omega)]
        exact ⟨vp_in_nI (by omega) (by omega), nm_e (nm_r (nI_1 s) (ih (s + 1) _ (by omega) (by omega) (yv_Is hI hr)))⟩
      have hx : ∀ e, (bt (rel (k * 13 + s)) e = true ↔ (e ≤ L ∧ A s e)) := by
        intro e
        rw [hI.1 (k * 13 + s) (fun q hq => by omega)]
        exact hRA s (by omega) e
      have hr : ∀ q, q ≤ L → ∀ e, (bt (rel (k * 13 + 13 + q)) e = true ↔ (e ≤ L ∧ B q e)) := by
        intro q hq e
        rw [hI.1 (k * 13 + 13 + q) (fun q' hq' => by omega), show k * 13 + 13 + q = (k + 1) * 13 + q from by omega]
        exact hRB q hq e
      refine br_f (nI_nlt (by omega) (by omega)) ?_
      rw [ax_m13, ax_a13, nI_add, nI_add, nI_clamp (by omega), nI_clamp (by omega)]
      refine ⟨vp_in_nI (by omega) (by omega), nm_e ?_⟩
      rcases h34 with e3 | e3
      · subst e3
        refine br_f (by decide) ⟨L + 2, yj_in (Yrl := rel) (A := A) (B := B) hk hL hB hx hr fin (L + 2) 0 0 (by omega) (by omega) ?_⟩
        intro e
        constructor
        · intro h
          exact absurd h ab_zz
        · intro h
          obtain ⟨_, q, h0, _⟩ := h
          exact absurd h0 (by omega)
      · subst e3
        refine br_t rfl ⟨vp_in_nI (by omega) (by omega), nm_e ⟨1, ?_⟩⟩
        unfold wY_join_55
        refine br_f (by decide) (fin _ ?_)
        intro e
        rw [ab_orI, hx e, hr s (by omega) e]
        constructor
        · intro h
          rcases h with h | h
          · exact ⟨h.1, Or.inl ⟨rfl, Or.inl h.2⟩⟩
          · exact ⟨h.1, Or.inl ⟨rfl, Or.inr h.2⟩⟩
        · intro h
          rcases h.2 with y | y
          · rcases y.2 with y | y
            · exact Or.inl ⟨h.1, y⟩
            · exact Or.inr ⟨h.1, y⟩
          · exact absurd rfl y.1
theorem yj_join {post : SY → Prop} {kd : Int32} {A B : Nat → Nat → Prop} (hk : k + 1 < 8) (hL : L ≤ 12) (hB : ∀ s e, B s e → s ≤ e) (h34 : kd = 3 ∨ kd = 4)
    (hRA : yv_H Yrl k L A) (hRB : yv_H Yrl (k + 1) L B) (kk : ∀ rel, yv_J Yrl rel k L (aa_bin kd A B) → post (Ydc, Yml, Ymn, Yal, Ync, Ysr, Ypr, Ysz, Ywd, Ykd, Yar, Yhi, Yh1, Yh2, rel)) : wpY_join post (Ydc, Yml, Ymn, Yal, Ync, Ysr, Ypr, Ysz, Ywd, Ykd, Yar, Yhi, Yh1, Yh2, Yrl) (nI k) kd (nI L) := by
  unfold wpY_join
  exact ⟨L + 2, yj_loop hk hL hB h34 hRA hRB kk (L + 2) 0 Yrl (by omega) (by omega) yv_I0⟩
theorem yr_87 {post : SY → Prop} {kd : Int32} {P : Nat → Nat → Prop} {R : Nat → Int32} (hk : k < 8) (hL : L ≤ 12) (h6 : ¬ kd = 6)
    (kk : ∀ rel, yv_J R rel k L (fun q e => P q e ∨ e = q) → post (Ydc, Yml, Ymn, Yal, Ync, Ysr, Ypr, Ysz, Ywd, Ykd, Yar, Yhi, Yh1, Yh2, rel)) :
    ∀ (n s : Nat) (rel : Nat → Int32), s ≤ L + 1 → L + 1 - s < n → yv_J R rel k L (fun q e => P q e ∨ (q < s ∧ e = q)) → wY_repeat_87 post (nI k) kd (nI L) Ydc Yml Ymn Yal Ync Ysr n (nI s) Ypr Ysz Ywd Ykd Yar Yhi Yh1 Yh2 rel := by
  intro n
  induction n with
  | zero => intro s rel _ h; exact absurd h (by omega)
  | succ n ih =>
    intro s rel hs hn hI
    unfold wY_repeat_87
    refine br_f h6 ?_
    by_cases e : s = L + 1
    · subst e
      refine br_t (nI_lt (by omega) (by omega)) (kk rel (yv_Jc hI ?_))
      intro q e hq he
      exact ⟨fun z => z.elim Or.inl (fun y => Or.inr y.2), fun z => z.elim Or.inl (fun y => Or.inr ⟨by omega, y⟩)⟩
    · refine br_f (nI_nlt (by omega) (by omega)) ?_
      have v : vp_in (nI (k * 13 + s)) 104 := vp_in_nI (by omega) (by omega)
      rw [ax_m13, nI_add, nI_clamp (by omega)]
      refine ⟨v, v, nm_e (nm_r (nI_1 s) (ih (s + 1) _ (by omega) (by omega) (yv_Ju hI (by omega) ?_ ?_)))⟩
      · intro e
        rw [ab_set (by omega), hI.2 s (by omega) e]
        constructor
        · intro h
          rcases h with h | h
          · exact ⟨h.1, h.2.elim Or.inl (fun y => Or.inr ⟨by omega, y.2⟩)⟩
          · exact ⟨by omega, Or.inr ⟨by omega, h⟩⟩
        · intro h
          rcases h.2 with y | y
          · exact Or.inl ⟨h.1, Or.inl y⟩
          · exact Or.inr y.2
      · intro q e hq
        exact ⟨fun z => z.elim Or.inl (fun y => Or.inr ⟨by omega, y.2⟩), fun z => z.elim Or.inl (fun y => Or.inr ⟨by omega, y.2⟩)⟩
theorem yr_18 {post : SY → Prop} {J : Int32 → (Nat → Int32) → (Nat → Int32) → (Nat → Int32) → (Nat → Int32) → (Nat → Int32) → (Nat → Int32) → (Nat → Int32) → (Nat → Int32) → (Nat → Int32) → Prop}
    {kd : Int32} {A : Nat → Nat → Prop} {R : Nat → Int32} {m : Nat} (hk : k < 8) (hL : L ≤ 12) (hm : m ≤ L)
    (kk : ∀ rel, yv_J R rel k L (yv_Wa A (m + 1)) → J (nI (m + 1)) Ypr Ysz Ywd Ykd Yar Yhi Yh1 Yh2 rel) :
    ∀ (n s : Nat) (rel : Nat → Int32), s ≤ L + 1 → L + 1 - s < n → yv_J R rel k L (fun q e => (q < s ∧ yv_Wa A (m + 1) q e) ∨ (s ≤ q ∧ yv_Wa A m q e)) → wY_repeat_18 post J (nI k) kd (nI L) (nI m) Ydc Yml Ymn Yal Ync Ysr n (nI s) Ypr Ysz Ywd Ykd Yar Yhi Yh1 Yh2 rel := by
  intro n
  induction n with
  | zero => intro s rel _ h; exact absurd h (by omega)
  | succ n ih =>
    intro s rel hs hn hI
    unfold wY_repeat_18
    by_cases e : s = L + 1
    · subst e
      refine br_t (nI_lt (by omega) (by omega)) (nm_r (nI_1 m) (kk rel (yv_Jc hI ?_)))
      intro q e hq he
      exact ⟨fun z => z.elim (fun y => y.2) (fun y => absurd y.1 (by omega)), fun z => Or.inl ⟨by omega, z⟩⟩
    · refine br_f (nI_nlt (by omega) (by omega)) ?_
      have v : vp_in (nI (k * 13 + s)) 104 := vp_in_nI (by omega) (by omega)
      have v2 : vp_in (nI (k * 13 + m)) 104 := vp_in_nI (by omega) (by omega)
      have is : (nI (k * 13 + s)).toNatClampNeg = k * 13 + s := nI_clamp (by omega)
      have im : (nI (k * 13 + m)).toNatClampNeg = k * 13 + m := nI_clamp (by omega)
      rw [ax_m13, nI_add, nI_add, is, im]
      have hS : ∀ e, (bt (rel (k * 13 + s)) e = true ↔ (e ≤ L ∧ yv_Wa A m s e)) := by
        intro e
        rw [hI.2 s (by omega) e]
        exact ⟨fun z => ⟨z.1, z.2.elim (fun y => absurd y.1 (by omega)) (fun y => y.2)⟩, fun z => ⟨z.1, Or.inr ⟨by omega, z.2⟩⟩⟩
      have hMm : ∀ e, (bt (rel (k * 13 + m)) e = true ↔ (e ≤ L ∧ yv_Wa A m m e)) := by
        intro e
        rw [hI.2 m hm e]
        constructor
        · intro z
          refine ⟨z.1, z.2.elim (fun y => ?_) (fun y => y.2)⟩
          exact y.2.elim id (fun w => w.2)
        · intro z
          refine ⟨z.1, ?_⟩
          rcases Nat.lt_or_ge m s with w | w
          · exact Or.inl ⟨w, Or.inl z.2⟩
          · exact Or.inr ⟨w, z.2⟩
      have step : ∀ q e, ¬ q = s → (((q < s ∧ yv_Wa A (m + 1) q e) ∨ (s ≤ q ∧ yv_Wa A m q e)) ↔ ((q < s + 1 ∧ yv_Wa A (m + 1) q e) ∨ (s + 1 ≤ q ∧ yv_Wa A m q e))) := by
        intro q e hq
        exact ⟨fun z => z.elim (fun y => Or.inl ⟨by omega, y.2⟩) (fun y => Or.inr ⟨by omega, y.2⟩), fun z => z.elim (fun y => Or.inl ⟨by omega, y.2⟩) (fun y => Or.inr ⟨by omega, y.2⟩)⟩
      refine ⟨v, br_c (fun h => ⟨v, v2, v, nm_e (nm_r (nI_1 s) (ih (s + 1) _ (by omega) (by omega) (yv_Ju hI (by omega) ?_ step)))⟩) (fun h => nm_r (nI_1 s) (ih (s + 1) rel (by omega) (by omega) ?_))⟩
      · have hb := (hS m).mp ((ab_t1 _ (by omega)).mp h)
        intro e
        rw [ab_orI, hS e, hMm e]
        constructor
        · intro h
          rcases h with h | h
          · exact ⟨h.1, Or.inl ⟨by omega, Or.inl h.2⟩⟩
          · exact ⟨h.1, Or.inl ⟨by omega, Or.inr ⟨hb.2, h.2⟩⟩⟩
        · intro h
          rcases h.2 with y | y
          · rcases y.2 with y | y
            · exact Or.inl ⟨h.1, y⟩
            · exact Or.inr ⟨h.1, y.2⟩
          · exact absurd y.1 (by omega)
      · have hb : ¬ yv_Wa A m s m := fun z => h ((ab_t1 _ (by omega)).mpr ((hS m).mpr ⟨by omega, z⟩))
        refine yv_Jc hI ?_
        intro q e hq he
        by_cases eq : q = s
        · subst eq
          constructor
          · intro z
            rcases z with y | y
            · exact absurd y.1 (by omega)
            · exact Or.inl ⟨by omega, Or.inl y.2⟩
          · intro z
            rcases z with y | y
            · rcases y.2 with w | w
              · exact Or.inr ⟨by omega, w⟩
              · exact absurd w.1 hb
            · exact absurd y.1 (by omega)
        · exact step q e eq
theorem yr_3 {post : SY → Prop} {kd : Int32} {A : Nat → Nat → Prop} {R : Nat → Int32} (hk : k < 8) (hL : L ≤ 12) (h7 : ¬ kd = 7)
    (kk : ∀ rel, yv_J R rel k L (yv_Wa A (L + 1)) → ∃ n : Nat, wY_repeat_87 post (nI k) kd (nI L) Ydc Yml Ymn Yal Ync Ysr n 0 Ypr Ysz Ywd Ykd Yar Yhi Yh1 Yh2 rel) :
    ∀ (n m : Nat) (rel : Nat → Int32), m ≤ L + 1 → L + 1 - m < n → yv_J R rel k L (yv_Wa A m) → wY_repeat_3 post (nI k) kd (nI L) Ydc Yml Ymn Yal Ync Ysr n (nI m) Ypr Ysz Ywd Ykd Yar Yhi Yh1 Yh2 rel := by
  intro n
  induction n with
  | zero => intro m rel _ h; exact absurd h (by omega)
  | succ n ih =>
    intro m rel hm hn hI
    unfold wY_repeat_3
    refine br_f h7 ?_
    by_cases e : m = L + 1
    · subst e
      exact br_t (nI_lt (by omega) (by omega)) (kk rel hI)
    · refine br_f (nI_nlt (by omega) (by omega)) ⟨L + 2, yr_18 (A := A) (R := R) hk hL (by omega) ?_ (L + 2) 0 rel (by omega) (by omega) ?_⟩
      · intro rel' h'
        exact ih (m + 1) rel' (by omega) (by omega) h'
      · refine yv_Jc hI (fun q e hq he => ?_)
        exact ⟨fun z => Or.inr ⟨by omega, z⟩, fun z => z.elim (fun y => absurd y.1 (by omega)) (fun y => y.2)⟩
theorem yr_repeat {post : SY → Prop} {kd : Int32} {A : Nat → Nat → Prop} (hk : k < 8) (hL : L ≤ 12) (hA : ∀ s e, A s e → s ≤ e)
    (hR : yv_H Yrl k L A) (kk : ∀ rel, yv_J Yrl rel k L (aa_un kd A) → post (Ydc, Yml, Ymn, Yal, Ync, Ysr, Ypr, Ysz, Ywd, Ykd, Yar, Yhi, Yh1, Yh2, rel)) : wpY_repeat post (Ydc, Yml, Ymn, Yal, Ync, Ysr, Ypr, Ysz, Ywd, Ykd, Yar, Yhi, Yh1, Yh2, Yrl) (nI k) kd (nI L) := by
  have k87 : ∀ rel (P : Nat → Nat → Prop), (∀ q e, q ≤ L → e ≤ L → (P q e ↔ ((kd = 7 ∧ A q e) ∨ (¬ kd = 7 ∧ aa_pl A q e)))) → yv_J Yrl rel k L P → ∃ n : Nat, wY_repeat_87 post (nI k) kd (nI L) Ydc Yml Ymn Yal Ync Ysr n 0 Ypr Ysz Ywd Ykd Yar Yhi Yh1 Yh2 rel := by
    intro rel P hP hJ
    by_cases h6 : kd = 6
    · refine ⟨1, ?_⟩
      unfold wY_repeat_87
      refine br_t h6 (kk rel (yv_Jc hJ (fun q e hq he => ?_)))
      rw [hP q e hq he]
      unfold aa_un
      exact ⟨fun z => z.elim Or.inl (fun y => Or.inr (Or.inl y)), fun z => z.elim Or.inl (fun y => y.elim Or.inr (fun w => absurd h6 w.1))⟩
    · refine ⟨L + 2, yr_87 (P := P) (R := Yrl) hk hL h6 ?_ (L + 2) 0 rel (by omega) (by omega) ?_⟩
      · intro rel' h'
        refine kk rel' (yv_Jc h' (fun q e hq he => ?_))
        rw [hP q e hq he]
        unfold aa_un
        constructor
        · intro z
          rcases z with z | z
          · exact z.elim Or.inl (fun y => Or.inr (Or.inl y))
          · exact Or.inr (Or.inr ⟨h6, z⟩)
        · intro z
          rcases z with z | z | z
          · exact Or.inl (Or.inl z)
          · exact Or.inl (Or.inr z)
          · exact Or.inr z.2
      · exact yv_Jc hJ (fun q e hq he => ⟨Or.inl, fun z => z.elim id (fun y => absurd y.1 (by omega))⟩)
  unfold wpY_repeat
  by_cases h7 : kd = 7
  · refine ⟨1, ?_⟩
    unfold wY_repeat_3
    exact br_t h7 (k87 Yrl A (fun q e _ _ => ⟨fun z => Or.inl ⟨h7, z⟩, fun z => z.elim (fun y => y.2) (fun y => absurd h7 y.1)⟩) (yv_J0 hR))
  · refine ⟨L + 2, yr_3 (A := A) (R := Yrl) hk hL h7 ?_ (L + 2) 0 Yrl (by omega) (by omega) (yv_J0 hR)⟩
    intro rel hJ
    refine k87 rel _ (fun q e hq he => ?_) hJ
    rw [yv_wa_fin hA he]
    exact ⟨fun z => Or.inr ⟨h7, z⟩, fun z => z.elim (fun y => absurd y.1 h7) (fun y => y.2)⟩
end
end
section
/-! ===== Y: the loop of evaluate, locate, search, whole ===== -/
/-- the nodes' arguments on both sides -/
def nd_A (AL : Nat) (K M ar : Nat → Int32) (nc : Nat) : Prop :=
  ∀ i, i < nc → (K i = 1 → ∃ a, a < AL ∧ ar i = nI a ∧ ∀ c, bt (M i) c = true ↔ c = a) ∧ (K i = 2 → ar i = M i) ∧ 0 ≤ K i
theorem nd_012 {x : Int32} (h0 : 0 ≤ x) (h2 : ¬ 2 < x) : x = 0 ∨ x = 1 ∨ x = 2 := by
  rw [Int32.le_iff_toInt_le, show (0 : Int32).toInt = 0 from by decide] at h0
  rw [Int32.lt_iff_toInt_lt, show (2 : Int32).toInt = 2 from by decide] at h2
  rcases (by omega : x.toInt = 0 ∨ x.toInt = 1 ∨ x.toInt = 2) with h | h | h
  · exact Or.inl (Int32.toInt_inj.mp (h.trans (by decide)))
  · exact Or.inr (Or.inl (Int32.toInt_inj.mp (h.trans (by decide))))
  · exact Or.inr (Or.inr (Int32.toInt_inj.mp (h.trans (by decide))))
theorem yv_Hc {rel : Nat → Int32} {x L : Nat} {A A' : Nat → Nat → Prop} (h : yv_H rel x L A) (hA : ∀ s e, A s e ↔ A' s e) : yv_H rel x L A' :=
  fun s hs e => (h s hs e).trans ⟨fun z => ⟨z.1, (hA s e).mp z.2⟩, fun z => ⟨z.1, (hA s e).mpr z.2⟩⟩
section
variable {Ydc Yml Ymn Yal Ync Ysr : Int32} {Ypr Ysz Ywd Ykd Yar Yhi Yh1 Yh2 Yrl : Nat → Int32}
variable {d L AL nc : Nat} {M : Nat → Int32}
theorem ye_loop {post : SY → Prop} (hn : nc ≤ 24) (hV : nd_V Ykd nc) (hAr : nd_A AL Ykd M Yar nc) (hd : d < 8) (hL : L ≤ 12) (el : Ysz d = nI L) (hw : rl_W Ywd AL) (hA : AL ≤ 6)
    (kk : ∀ rel, (∀ x, x < aa_dep Ykd nc → yv_H rel x L (aa_stk (rl_t Ywd d) Ykd M nc x)) → post (Ydc, Yml, Ymn, Yal, nI nc, Ysr, Ypr, Ysz, Ywd, Ykd, Yar, Yhi, Yh1, Yh2, rel)) :
    ∀ (n i : Nat) (rel : Nat → Int32), i ≤ nc → nc - i < n → (∀ x, x < aa_dep Ykd i → yv_H rel x L (aa_stk (rl_t Ywd d) Ykd M i x)) → wY_evaluate_4 post (nI d) n (nI (aa_dep Ykd i)) (nI i) Ydc Yml Ymn Yal (nI nc) Ysr Ypr Ysz Ywd Ykd Yar Yhi Yh1 Yh2 rel := by
  intro n
  have v8 : vp_in (nI d) 8 := vp_in_nI (by omega) (by omega)
  have ic : (nI d).toNatClampNeg = d := nI_clamp (by omega)
  induction n with
  | zero => intro i rel _ h; exact absurd h (by omega)
  | succ n ih =>
    intro i rel hi hm hI
    unfold wY_evaluate_4
    by_cases e : i = nc
    · subst e
      exact br_t (nI_le (Nat.le_refl _) (by omega)) (kk rel hI)
    · have v : vp_in (nI i) 24 := vp_in_nI (by omega) (by omega)
      have ii : (nI i).toNatClampNeg = i := nI_clamp (by omega)
      have hv := hV i (by omega)
      have h8 := nd_V8 hV i (by omega)
      have hr : ∀ rel', (∀ x, x < aa_dep Ykd (i + 1) → yv_H rel' x L (aa_stk (rl_t Ywd d) Ykd M (i + 1) x)) → wY_evaluate_4 post (nI d) n (nI (aa_dep Ykd (i + 1))) (nI (i + 1)) Ydc Yml Ymn Yal (nI nc) Ysr Ypr Ysz Ywd Ykd Yar Yhi Yh1 Yh2 rel' := fun rel' h => ih (i + 1) rel' (by omega) (by omega) h
      refine br_f (nI_ge (by omega) (by omega)) ⟨v, ?_⟩
      rw [ii]
      refine br_c (fun h2 => ⟨v, br_c (fun h4 => ?_) (fun h4 => ?_)⟩) (fun h2 => ?_)
      · obtain ⟨a, ea⟩ : ∃ a, aa_dep Ykd i = a + 1 := ⟨aa_dep Ykd i - 1, by have := hv.2.2 h4; omega⟩
        rw [aa_dep_un h2 h4, ea] at hr
        unfold wY_evaluate_42
        rw [ii, ic, el, ea]
        refine nm_r (Int32.add_zero _) ⟨v, br_t h2 ⟨v, br_t h4 ⟨v, v8, ?_⟩⟩⟩
        rw [nI_pred]
        refine yr_repeat (Ync := nI nc) (Yrl := rel) (A := aa_stk (rl_t Ywd d) Ykd M i a) (by omega) hL (aa_stk_le i a) (hI a (by omega)) (fun rel' hJ => nm_r (nI_1 i) (hr rel' ?_))
        intro x hx
        by_cases ex : x = a
        · subst ex
          refine yv_Hc (yv_JH hJ) (fun s e => ?_)
          rw [aa_stk_un h2 h4, if_pos ea.symm]
        · refine yv_Hc (yv_Jo hJ hL ex (hI x (by omega))) (fun s e => ?_)
          rw [aa_stk_un h2 h4, if_neg (by omega)]
      · obtain ⟨a, ea⟩ : ∃ a, aa_dep Ykd i = a + 2 := ⟨aa_dep Ykd i - 2, by have := hv.2.1 h2 h4; omega⟩
        rw [aa_dep_bin h2 h4, ea] at hr
        unfold wY_evaluate_42
        rw [ii, ic, el, ea]
        refine nm_r (pk_m1 (a + 1)) ⟨v, br_t h2 ⟨v, br_f h4 ⟨v, v8, ?_⟩⟩⟩
        rw [nI_pred]
        refine yj_join (Ync := nI nc) (Yrl := rel) (A := aa_stk (rl_t Ywd d) Ykd M i a) (B := aa_stk (rl_t Ywd d) Ykd M i (a + 1)) (by omega) hL (aa_stk_le i (a + 1)) (nd_34 h2 h4) (hI a (by omega)) (hI (a + 1) (by omega)) (fun rel' hJ => nm_r (nI_1 i) (hr rel' ?_))
        intro x hx
        by_cases ex : x = a
        · subst ex
          refine yv_Hc (yv_JH hJ) (fun s e => ?_)
          rw [aa_stk_bin h2 h4, if_pos ea.symm]
        · refine yv_Hc (yv_Jo hJ hL ex (hI x (by omega))) (fun s e => ?_)
          rw [aa_stk_bin h2 h4, if_neg (by omega)]
      · have ha := hAr i (by omega)
        have hlt := hv.1 h2
        rw [aa_dep_leaf h2] at hr
        unfold wY_evaluate_42
        rw [ii]
        refine nm_r (nI_1 _) ⟨v, br_f h2 ⟨v, v, ?_⟩⟩
        rw [nI_pred]
        refine yl_leaf (Ync := nI nc) (Yrl := rel) (mk := M i) hlt hd hL el hw hA ha.1 ha.2.1 (nd_012 ha.2.2 h2) (fun rel' hJ => nm_r (nI_1 i) (hr rel' ?_))
        intro x hx
        by_cases ex : x = aa_dep Ykd i
        · rw [ex]
          refine yv_Hc (yv_JH hJ) (fun s e => ?_)
          rw [aa_stk_leaf h2, if_pos rfl]
        · refine yv_Hc (yv_Jo hJ hL ex (hI x (by omega))) (fun s e => ?_)
          rw [aa_stk_leaf h2, if_neg ex]
theorem ye_eval {post : SY → Prop} (hn : nc ≤ 24) (hV : nd_V Ykd nc) (hAr : nd_A AL Ykd M Yar nc) (hd : d < 8) (hL : L ≤ 12) (el : Ysz d = nI L) (hw : rl_W Ywd AL) (hA : AL ≤ 6)
    (kk : ∀ rel, (∀ x, x < aa_dep Ykd nc → yv_H rel x L (aa_stk (rl_t Ywd d) Ykd M nc x)) → post (Ydc, Yml, Ymn, Yal, nI nc, Ysr, Ypr, Ysz, Ywd, Ykd, Yar, Yhi, Yh1, Yh2, rel)) : wpY_evaluate post (Ydc, Yml, Ymn, Yal, nI nc, Ysr, Ypr, Ysz, Ywd, Ykd, Yar, Yhi, Yh1, Yh2, Yrl) (nI d) := by
  unfold wpY_evaluate
  exact ⟨nc + 1, ye_loop hn hV hAr hd hL el hw hA kk (nc + 1) 0 Yrl (by omega) (by omega) (fun x hx => absurd hx (by show ¬ x < 0; omega))⟩
end
/-! the least start and then the greatest end -/
def sp_S (A : Nat → Nat → Prop) (L lo s e : Nat) : Prop :=
  lo ≤ s ∧ s ≤ e ∧ e ≤ L ∧ A s e ∧ (∀ s' e', lo ≤ s' → s' < s → e' ≤ L → ¬ A s' e') ∧ (∀ e', e < e' → e' ≤ L → ¬ A s e')
def sp_N (A : Nat → Nat → Prop) (L lo : Nat) : Prop := ∀ s e, lo ≤ s → e ≤ L → ¬ A s e
theorem sp_uniq {A : Nat → Nat → Prop} {L lo s e s' e' : Nat} (h : sp_S A L lo s e) (h' : sp_S A L lo s' e') : s = s' ∧ e = e' := by
  obtain ⟨a1, a2, a3, a4, a5, a6⟩ := h
  obtain ⟨b1, b2, b3, b4, b5, b6⟩ := h'
  have es : s = s' := by
    rcases Nat.lt_trichotomy s s' with z | z | z
    · exact absurd a4 (b5 s e a1 z a3)
    · exact z
    · exact absurd b4 (a5 s' e' b1 z b3)
  subst es
  refine ⟨rfl, ?_⟩
  rcases Nat.lt_trichotomy e e' with z | z | z
  · exact absurd b4 (a6 e' z b3)
  · exact z
  · exact absurd a4 (b6 e z a3)
/-- what the reference has noted of slot d, from start lo on -/
def yq_T (A : Nat → Nat → Prop) (L lo d : Nat) (hi h1 h2 : Nat → Int32) : Prop :=
  (sp_N A L lo ∧ hi d = 0) ∨ (∃ s e, sp_S A L lo s e ∧ hi d = 1 ∧ h1 d = nI s ∧ h2 d = nI e)
def yq_O (d : Nat) (H S E hi h1 h2 : Nat → Int32) : Prop := ∀ j, ¬ j = d → hi j = H j ∧ h1 j = S j ∧ h2 j = E j
/-- .. and of start s, up to end e -/
def yq_U (A : Nat → Nat → Prop) (L s e d : Nat) (hi h1 h2 : Nat → Int32) : Prop :=
  (∃ e1, s ≤ e1 ∧ e1 < e ∧ A s e1 ∧ (∀ e', e1 < e' → e' < e → ¬ A s e') ∧ hi d = 1 ∧ h1 d = nI s ∧ h2 d = nI e1) ∨ ((∀ e', e' < e → ¬ A s e') ∧ yq_T A L (s + 1) d hi h1 h2)
section
variable {Ydc Yml Ymn Yal Ync Ysr : Int32} {Ypr Ysz Ywd Ykd Yar Yhi Yh1 Yh2 Yrl : Nat → Int32}
variable {d L : Nat} {A : Nat → Nat → Prop} {H S E : Nat → Int32}
theorem yq_18 {post : SY → Prop} {J : Int32 → (Nat → Int32) → (Nat → Int32) → (Nat → Int32) → (Nat → Int32) → (Nat → Int32) → (Nat → Int32) → (Nat → Int32) → (Nat → Int32) → (Nat → Int32) → Prop}
    {s : Nat} (hd : d < 8) (hL : L ≤ 12) (hs : s ≤ L) (el : Ysz d = nI L) (hr : ∀ e, (bt (Yrl s) e = true ↔ (e ≤ L ∧ A s e))) (hle : ∀ s e, A s e → s ≤ e)
    (kk : ∀ hi h1 h2, yq_T A L s d hi h1 h2 → yq_O d H S E hi h1 h2 → J (nI s + (-1)) Ypr Ysz Ywd Ykd Yar hi h1 h2 Yrl) :
    ∀ (n e : Nat) (hi h1 h2 : Nat → Int32), s ≤ e → e ≤ L + 1 → L + 1 - e < n → yq_U A L s e d hi h1 h2 → yq_O d H S E hi h1 h2 → wY_locate_18 post J (nI d) (nI s) Ydc Yml Ymn Yal Ync Ysr n (nI e) Ypr Ysz Ywd Ykd Yar hi h1 h2 Yrl := by
  intro n
  have v8 : vp_in (nI d) 8 := vp_in_nI (by omega) (by omega)
  have ic : (nI d).toNatClampNeg = d := nI_clamp (by omega)
  have is : (nI s).toNatClampNeg = s := nI_clamp (by omega)
  have vs : vp_in (nI s) 104 := vp_in_nI (by omega) (by omega)
  induction n with
  | zero => intro e hi h1 h2 _ _ h; exact absurd h (by omega)
  | succ n ih =>
    intro e hi h1 h2 hse he hn hU hO
    unfold wY_locate_18
    rw [ic, is, el]
    refine ⟨v8, ?_⟩
    by_cases ee : e = L + 1
    · subst ee
      refine br_t (nI_lt (by omega) (by omega)) (nm_e (kk hi h1 h2 ?_ hO))
      rcases hU with hU | hU
      · obtain ⟨e1, a1, a2, a3, a4, a5⟩ := hU
        exact Or.inr ⟨s, e1, ⟨Nat.le_refl _, a1, by omega, a3, fun s' e' z1 z2 _ => absurd z2 (by omega), fun e' z1 z2 => a4 e' z1 (by omega)⟩, a5⟩
      · obtain ⟨b1, b2⟩ := hU
        rcases b2 with b2 | b2
        · refine Or.inl ⟨?_, b2.2⟩
          intro s' e' z1 z2 z3
          by_cases es : s' = s
          · subst es
            exact b1 e' (by omega) z3
          · exact b2.1 s' e' (by omega) z2 z3
        · obtain ⟨s1, e1, c1, c2⟩ := b2
          refine Or.inr ⟨s1, e1, ?_, c2⟩
          obtain ⟨d1, d2, d3, d4, d5, d6⟩ := c1
          refine ⟨by omega, d2, d3, d4, ?_, d6⟩
          intro s' e' z1 z2 z3 z4
          by_cases es : s' = s
          · subst es
            exact b1 e' (by omega) z4
          · exact d5 s' e' (by omega) z2 z3 z4
    · refine br_f (nI_nlt (by omega) (by omega)) ⟨vs, br_c (fun h => ?_) (fun h => ?_)⟩
      · have hb := (hr e).mp ((ab_t1 _ (by omega)).mp h)
        refine ⟨v8, nm_e ⟨v8, nm_e ⟨v8, nm_e (nm_r (nI_1 e) (ih (e + 1) _ _ _ (by omega) (by omega) (by omega) ?_ ?_))⟩⟩⟩
        · refine Or.inl ⟨e, hse, by omega, hb.2, fun e' z1 z2 => absurd z1 (by omega), ?_, ?_, ?_⟩
          · rw [pk_us]; exact ax_b1
          · rw [pk_us]
          · rw [pk_us]
        · intro j hj
          rw [pk_un hj, pk_un hj, pk_un hj]
          exact hO j hj
      · have hb : ¬ A s e := fun z => h ((ab_t1 _ (by omega)).mpr ((hr e).mpr ⟨by omega, z⟩))
        refine nm_r (nI_1 e) (ih (e + 1) hi h1 h2 (by omega) (by omega) (by omega) ?_ hO)
        rcases hU with hU | hU
        · obtain ⟨e1, a1, a2, a3, a4, a5⟩ := hU
          refine Or.inl ⟨e1, a1, by omega, a3, fun e' z1 z2 => ?_, a5⟩
          by_cases eq : e' = e
          · rw [eq]; exact hb
          · exact a4 e' z1 (by omega)
        · refine Or.inr ⟨fun e' z => ?_, hU.2⟩
          by_cases eq : e' = e
          · rw [eq]; exact hb
          · exact hU.1 e' (by omega)
theorem yq_12 {post : SY → Prop} (hd : d < 8) (hL : L ≤ 12) (el : Ysz d = nI L) (hr : yv_H Yrl 0 L A) (hle : ∀ s e, A s e → s ≤ e)
    (kk : ∀ hi h1 h2, yq_T A L 0 d hi h1 h2 → yq_O d H S E hi h1 h2 → post (Ydc, Yml, Ymn, Yal, Ync, Ysr, Ypr, Ysz, Ywd, Ykd, Yar, hi, h1, h2, Yrl)) :
    ∀ (m n : Nat) (hi h1 h2 : Nat → Int32), m ≤ L + 1 → m < n → yq_T A L m d hi h1 h2 → yq_O d H S E hi h1 h2 → wY_locate_12 post (nI d) Ydc Yml Ymn Yal Ync Ysr n (nI m + (-1)) Ypr Ysz Ywd Ykd Yar hi h1 h2 Yrl := by
  intro m
  induction m with
  | zero =>
    intro n hi h1 h2 _ hn hT hO
    obtain ⟨n, rfl⟩ : ∃ n', n = n' + 1 := ⟨n - 1, by omega⟩
    unfold wY_locate_12
    exact br_t (by decide) (kk hi h1 h2 hT hO)
  | succ m ih =>
    intro n hi h1 h2 hm hn hT hO
    obtain ⟨n, rfl⟩ : ∃ n', n = n' + 1 := ⟨n - 1, by omega⟩
    rw [pk_m1]
    unfold wY_locate_12
    refine br_f (nI_pos (by omega)) ⟨L + 2, yq_18 (A := A) (H := H) (S := S) (E := E) hd hL (by omega) el ?_ hle ?_ (L + 2) m hi h1 h2 (Nat.le_refl _) (by omega) (by omega) ?_ hO⟩
    · intro e
      have := hr m (by omega) e
      rw [Nat.zero_mul, Nat.zero_add] at this
      exact this
    · intro hi' h1' h2' hT' hO'
      exact ih n hi' h1' h2' (by omega) (by omega) hT' hO'
    · refine Or.inr ⟨fun e' z y => ?_, hT⟩
      have := hle m e' y
      omega
end
section
variable {Ydc Yml Ymn Yal Ync Ysr : Int32} {Ypr Ysz Ywd Ykd Yar Yhi Yh1 Yh2 Yrl : Nat → Int32}
variable {d L AL nc : Nat} {M : Nat → Int32}
theorem yq_locate {post : SY → Prop} (hn : nc ≤ 24) (hV : nd_V Ykd nc) (hAr : nd_A AL Ykd M Yar nc) (hd : d < 8) (hL : L ≤ 12) (el : Ysz d = nI L) (hw : rl_W Ywd AL) (hA : AL ≤ 6) (h1 : aa_dep Ykd nc = 1) (h0 : Yhi d = 0)
    (kk : ∀ rel hi h1 h2, yq_T (aa_stk (rl_t Ywd d) Ykd M nc 0) L 0 d hi h1 h2 → yq_O d Yhi Yh1 Yh2 hi h1 h2 → post (Ydc, Yml, Ymn, Yal, nI nc, Ysr, Ypr, Ysz, Ywd, Ykd, Yar, hi, h1, h2, rel)) : wpY_locate post (Ydc, Yml, Ymn, Yal, nI nc, Ysr, Ypr, Ysz, Ywd, Ykd, Yar, Yhi, Yh1, Yh2, Yrl) (nI d) := by
  unfold wpY_locate
  refine ye_eval (M := M) hn hV hAr hd hL el hw hA (fun rel hrel => ⟨vp_in_nI (by omega) (by omega), nm_r (e' := nI (L + 1) + (-1)) (by rw [nI_clamp (by omega), el, pk_m1]) ⟨L + 2, ?_⟩⟩)
  refine yq_12 (Ync := nI nc) (Yrl := rel) (A := aa_stk (rl_t Ywd d) Ykd M nc 0) (H := Yhi) (S := Yh1) (E := Yh2) hd hL el (hrel 0 (by omega)) (aa_stk_le nc 0) (kk rel) (L + 1) (L + 2) Yhi Yh1 Yh2 (by omega) (by omega) (Or.inl ⟨?_, h0⟩) (fun _ _ => ⟨rfl, rfl, rfl⟩)
  intro s e z1 z2 z3
  have := aa_stk_le nc 0 s e z3
  omega
theorem ye_whole_t {post : Int32 → SY → Prop} {D : Nat} (hD : D ≤ 8) (hn : nc ≤ 24) (hV : nd_V Ykd nc) (hAr : nd_A AL Ykd M Yar nc) (hd : d < D) (hp : ¬ Ypr d = 0) (hL : L ≤ 12) (el : Ysz d = nI L) (hw : rl_W Ywd AL) (hA : AL ≤ 6) (h1 : aa_dep Ykd nc = 1)
    (kk : ∀ rel r, (aa_stk (rl_t Ywd d) Ykd M nc 0 0 L → r = 1) → (¬ aa_stk (rl_t Ywd d) Ykd M nc 0 0 L → r = 0) → post r (nI D, Yml, Ymn, Yal, nI nc, Ysr, Ypr, Ysz, Ywd, Ykd, Yar, Yhi, Yh1, Yh2, rel)) : wpY_whole post (nI D, Yml, Ymn, Yal, nI nc, Ysr, Ypr, Ysz, Ywd, Ykd, Yar, Yhi, Yh1, Yh2, Yrl) (nI d) := by
  unfold wpY_whole
  refine yw_length_t (Ync := nI nc) hD hd hp ?_
  rw [el]
  refine br_t (nI_pos' (by omega)) (yn_depth (Ydc := nI D) hn hV ?_)
  rw [h1]
  refine br_t rfl (ye_eval (Ydc := nI D) (M := M) hn hV hAr (by omega) hL el hw hA (fun rel hrel => kk rel _ ?_ ?_))
  · intro h
    have hb := (hrel 0 (by omega) 0 (by omega) L).mpr ⟨Nat.le_refl _, h⟩
    exact (ab_t1 _ (by omega)).mpr hb
  · intro h
    have hb : ¬ bt (rel 0) L = true := fun z => h ((hrel 0 (by omega) 0 (by omega) L).mp z).2
    exact (ab_t0 _ (by omega)).mpr (ab_nt hb)
theorem ye_whole_f1 {post : Int32 → SY → Prop} {D : Nat} (hD : D ≤ 8) {p : Int32} (hp : ¬ ∃ d, d < D ∧ p = nI d) (k : post (-1) (nI D, Yml, Ymn, Yal, Ync, Ysr, Ypr, Ysz, Ywd, Ykd, Yar, Yhi, Yh1, Yh2, Yrl)) : wpY_whole post (nI D, Yml, Ymn, Yal, Ync, Ysr, Ypr, Ysz, Ywd, Ykd, Yar, Yhi, Yh1, Yh2, Yrl) p := by
  unfold wpY_whole
  exact yw_length_f1 hD hp (br_f (by decide) k)
theorem ye_whole_f2 {post : Int32 → SY → Prop} {D : Nat} (hD : D ≤ 8) (hd : d < D) (hp : Ypr d = 0) (k : post (-5) (nI D, Yml, Ymn, Yal, Ync, Ysr, Ypr, Ysz, Ywd, Ykd, Yar, Yhi, Yh1, Yh2, Yrl)) : wpY_whole post (nI D, Yml, Ymn, Yal, Ync, Ysr, Ypr, Ysz, Ywd, Ykd, Yar, Yhi, Yh1, Yh2, Yrl) (nI d) := by
  unfold wpY_whole
  exact yw_length_f2 hD hd hp (br_f (by decide) k)
theorem ye_whole_f3 {post : Int32 → SY → Prop} {D : Nat} (hD : D ≤ 8) (hn : nc ≤ 24) (hV : nd_V Ykd nc) (hd : d < D) (hp : ¬ Ypr d = 0) (hL : L ≤ 12) (el : Ysz d = nI L) (h8 : aa_dep Ykd nc ≤ 8) (h1 : ¬ aa_dep Ykd nc = 1)
    (k : post (-6) (nI D, Yml, Ymn, Yal, nI nc, Ysr, Ypr, Ysz, Ywd, Ykd, Yar, Yhi, Yh1, Yh2, Yrl)) : wpY_whole post (nI D, Yml, Ymn, Yal, nI nc, Ysr, Ypr, Ysz, Ywd, Ykd, Yar, Yhi, Yh1, Yh2, Yrl) (nI d) := by
  unfold wpY_whole
  refine yw_length_t (Ync := nI nc) hD hd hp ?_
  rw [el]
  refine br_t (nI_pos' (by omega)) (yn_depth (Ydc := nI D) hn hV (br_f ?_ k))
  show ¬ nI (aa_dep Ykd nc) = nI 1
  rw [nI_eq (by omega) (by omega)]
  exact h1
end
/-- the number of hits below n -/
def sc_n (f : Nat → Int32) : Nat → Nat
  | 0 => 0
  | n + 1 => sc_n f n + (if f n = 0 then 0 else 1)
theorem sc_congr {f g : Nat → Int32} : ∀ {n : Nat}, (∀ i, i < n → f i = g i) → sc_n f n = sc_n g n
  | 0, _ => rfl
  | n + 1, h => by
    have ih := sc_congr (n := n) (fun i hi => h i (by omega))
    show sc_n f n + (if f n = 0 then 0 else 1) = sc_n g n + (if g n = 0 then 0 else 1)
    rw [ih, h n (by omega)]
/-- the reference's result below n -/
def yq_G (A : Nat → Nat → Nat → Prop) (L : Nat → Nat) (pr : Nat → Int32) (hi h1 h2 : Nat → Int32) (n : Nat) : Prop :=
  ∀ i, i < n → (pr i = 0 ∧ hi i = 0) ∨ (¬ pr i = 0 ∧ yq_T (A i) (L i) 0 i hi h1 h2)
section
variable {Ydc Yml Ymn Yal Ync Ysr : Int32} {Ypr Ysz Ywd Ykd Yar Yhi Yh1 Yh2 Yrl : Nat → Int32}
variable {D AL nc : Nat} {M : Nat → Int32} {L : Nat → Nat}
theorem yq_20 {post : Int32 → SY → Prop} (hD : D ≤ 8) (hn : nc ≤ 24) (hV : nd_V Ykd nc) (hAr : nd_A AL Ykd M Yar nc) (hw : rl_W Ywd AL) (hA : AL ≤ 6) (h1 : aa_dep Ykd nc = 1)
    (hL : ∀ d, d < D → ¬ Ypr d = 0 → Ysz d = nI (L d) ∧ L d ≤ 12)
    (kk : ∀ hi h1 h2 rel, yq_G (fun i => aa_stk (rl_t Ywd i) Ykd M nc 0) L Ypr hi h1 h2 D → post (nI (sc_n hi D)) (nI D, Yml, Ymn, Yal, nI nc, Ysr, Ypr, Ysz, Ywd, Ykd, Yar, hi, h1, h2, rel)) :
    ∀ (n d : Nat) (hi h1 h2 rel : Nat → Int32), d ≤ D → D - d < n → yq_G (fun i => aa_stk (rl_t Ywd i) Ykd M nc 0) L Ypr hi h1 h2 d →
      wY_search_20 post n (nI (sc_n hi d)) (nI d) (nI D) Yml Ymn Yal (nI nc) Ysr Ypr Ysz Ywd Ykd Yar hi h1 h2 rel := by
  intro n
  induction n with
  | zero => intro d hi h1 h2 rel _ h; exact absurd h (by omega)
  | succ n ih =>
    intro d hi h1 h2 rel hd hm hG
    unfold wY_search_20
    by_cases e : d = D
    · subst e
      exact br_t (nI_le (Nat.le_refl _) (by omega)) (kk hi h1 h2 rel hG)
    · have v8 : vp_in (nI d) 8 := vp_in_nI (by omega) (by omega)
      have ic : (nI d).toNatClampNeg = d := nI_clamp (by omega)
      have fin : ∀ hi' h1' h2' rel', (∀ i, i < d → hi' i = hi i) → yq_G (fun i => aa_stk (rl_t Ywd i) Ykd M nc 0) L Ypr hi' h1' h2' (d + 1) →
          wY_search_49 post (wY_search_20 post n) (nI (sc_n hi d)) (nI d) (nI D) Yml Ymn Yal (nI nc) Ysr Ypr Ysz Ywd Ykd Yar hi' h1' h2' rel' := by
        intro hi' h1' h2' rel' hh hG'
        have hr := ih (d + 1) hi' h1' h2' rel' (by omega) (by omega) hG'
        have es : sc_n hi' d = sc_n hi d := sc_congr hh
        unfold wY_search_49
        rw [ic]
        refine ⟨v8, br_c (fun h => nm_r (nI_1 d) ?_) (fun h => nm_r (e' := nI (sc_n hi d + 1)) (nI_1 _) (nm_r (nI_1 d) ?_))⟩
        · have e2 : sc_n hi' (d + 1) = sc_n hi d := by
            show sc_n hi' d + (if hi' d = 0 then 0 else 1) = sc_n hi d
            rw [if_pos h, es]; rfl
          rw [e2] at hr
          exact hr
        · have e2 : sc_n hi' (d + 1) = sc_n hi d + 1 := by
            show sc_n hi' d + (if hi' d = 0 then 0 else 1) = sc_n hi d + 1
            rw [if_neg h, es]
          rw [e2] at hr
          exact hr
      have upG : ∀ hi' h1' h2', yq_O d hi h1 h2 hi' h1' h2' → ((Ypr d = 0 ∧ hi' d = 0) ∨ (¬ Ypr d = 0 ∧ yq_T (aa_stk (rl_t Ywd d) Ykd M nc 0) (L d) 0 d hi' h1' h2')) → yq_G (fun i => aa_stk (rl_t Ywd i) Ykd M nc 0) L Ypr hi' h1' h2' (d + 1) := by
        intro hi' h1' h2' hO hd' i hi'
        by_cases ei : i = d
        · subst ei; exact hd'
        · obtain ⟨o1, o2, o3⟩ := hO i ei
          have := hG i (by omega)
          unfold yq_T at this ⊢
          rw [o1, o2, o3]
          exact this
      refine br_f (nI_ge (by omega) (by omega)) ⟨v8, nm_r (e' := upd hi d 0) (by rw [ic, ax_b0]) ⟨v8, ?_⟩⟩
      rw [ic]
      refine br_c (fun h => fin (upd hi d 0) h1 h2 rel (fun i hi => pk_un (by omega)) (upG _ _ _ (fun j hj => ⟨pk_un hj, rfl, rfl⟩) (Or.inl ⟨h, pk_us⟩))) (fun h => ?_)
      obtain ⟨l1, l2⟩ := hL d (by omega) h
      refine yq_locate (Ydc := nI D) (Yhi := upd hi d 0) (Yh1 := h1) (Yh2 := h2) (Yrl := rel) (M := M) hn hV hAr (by omega) l2 l1 hw hA ‹aa_dep Ykd nc = 1› pk_us (fun rel' hi' h1' h2' hT hO => fin hi' h1' h2' rel' ?_ (upG hi' h1' h2' ?_ (Or.inr ⟨h, hT⟩)))
      · intro i hi
        rw [(hO i (by omega)).1, pk_un (by omega)]
      · intro j hj
        obtain ⟨o1, o2, o3⟩ := hO j hj
        exact ⟨by rw [o1, pk_un hj], o2, o3⟩
theorem yq_search_t {post : Int32 → SY → Prop} (hD : D ≤ 8) (hn : nc ≤ 24) (hV : nd_V Ykd nc) (hAr : nd_A AL Ykd M Yar nc) (hw : rl_W Ywd AL) (hA : AL ≤ 6) (h1 : aa_dep Ykd nc = 1)
    (hL : ∀ d, d < D → ¬ Ypr d = 0 → Ysz d = nI (L d) ∧ L d ≤ 12)
    (kk : ∀ hi h1 h2 rel, yq_G (fun i => aa_stk (rl_t Ywd i) Ykd M nc 0) L Ypr hi h1 h2 D → post (nI (sc_n hi D)) (nI D, Yml, Ymn, Yal, nI nc, 1, Ypr, Ysz, Ywd, Ykd, Yar, hi, h1, h2, rel)) : wpY_search post (nI D, Yml, Ymn, Yal, nI nc, Ysr, Ypr, Ysz, Ywd, Ykd, Yar, Yhi, Yh1, Yh2, Yrl) := by
  unfold wpY_search
  refine yn_depth (Ydc := nI D) hn hV ?_
  rw [h1]
  exact br_t rfl ⟨D + 1, yq_20 (Ysr := 1) (M := M) hD hn hV hAr hw hA h1 hL kk (D + 1) 0 Yhi Yh1 Yh2 Yrl (by omega) (by omega) (fun i hi => absurd hi (by omega))⟩
theorem yq_search_f {post : Int32 → SY → Prop} (hn : nc ≤ 24) (hV : nd_V Ykd nc) (h8 : aa_dep Ykd nc ≤ 8) (h1 : ¬ aa_dep Ykd nc = 1) (k : post (-6) (Ydc, Yml, Ymn, Yal, nI nc, Ysr, Ypr, Ysz, Ywd, Ykd, Yar, Yhi, Yh1, Yh2, Yrl)) : wpY_search post (Ydc, Yml, Ymn, Yal, nI nc, Ysr, Ypr, Ysz, Ywd, Ykd, Yar, Yhi, Yh1, Yh2, Yrl) := by
  unfold wpY_search
  refine yn_depth hn hV (br_f ?_ k)
  show ¬ nI (aa_dep Ykd nc) = nI 1
  rw [nI_eq (by omega) (by omega)]
  exact h1
end
end
section
/-! ===== X: followers, longest, locate, the loop of search ===== -/
def xq_P (A : Nat → Nat → Prop) (s p : Nat) (r : Int32) : Prop :=
  (r = -1 ∧ ∀ e, e ≤ p → ¬ A s e) ∨ (∃ e, r = nI e ∧ s ≤ e ∧ e ≤ p ∧ A s e ∧ ∀ e', e < e' → e' ≤ p → ¬ A s e')
def xq_L (fi fo ac : Nat → Int32) (t : Nat → Nat) (s p : Nat) (v : Int32) : Prop :=
  ∀ q, bt v q = true ↔ (p = s ∧ au_in (fi 0) q) ∨ (∃ n p0 r, p = s + n + 1 ∧ au_in (fi 0) p0 ∧ aa_run (au_ac ac) (au_fo fo) t p0 s n r ∧ au_fo fo r q)
section
variable {nu fi la fo ac : Nat → Int32} {t : Nat → Nat} {s p : Nat} {v : Int32}
theorem xq_le {x e : Nat} (h : au_A nu fi la fo ac t x s e) : s ≤ e := by
  rcases h with h | h
  · omega
  · obtain ⟨n, _, _, h, _⟩ := h
    omega
theorem xq_act (h : xq_L fi fo ac t s p v) (hs : s ≤ p) (q : Nat) : bt (v &&& ac (t p)) q = true ↔ ∃ p0, au_in (fi 0) p0 ∧ aa_run (au_ac ac) (au_fo fo) t p0 s (p - s) q := by
  rw [ab_andI, h q]
  constructor
  · intro z
    obtain ⟨z1, z2⟩ := z
    rcases z1 with z1 | z1
    · refine ⟨q, z1.2, ?_⟩
      obtain ⟨e, _⟩ := z1
      subst e
      rw [Nat.sub_self]
      exact ⟨rfl, z2⟩
    · obtain ⟨n, p0, r, e, h1, h2, h3⟩ := z1
      subst e
      refine ⟨p0, h1, ?_⟩
      rw [show s + n + 1 - s = n + 1 from by omega]
      exact ⟨r, h2, h3, z2⟩
  · intro z
    obtain ⟨p0, h1, h2⟩ := z
    obtain ⟨n, e⟩ : ∃ n, p = s + n := ⟨p - s, by omega⟩
    subst e
    rw [show s + n - s = n from by omega] at h2
    cases n with
    | zero =>
      obtain ⟨e, h3⟩ := h2
      subst e
      exact ⟨Or.inl ⟨rfl, h1⟩, h3⟩
    | succ n =>
      obtain ⟨r, h3, h4, h5⟩ := h2
      exact ⟨Or.inr ⟨n, p0, r, rfl, h1, h3, h4⟩, h5⟩
theorem xq_acc (h : xq_L fi fo ac t s p v) (hs : s ≤ p) : ((v &&& ac (t p)) &&& la 0) = 0 ↔ ¬ au_A nu fi la fo ac t 0 s (p + 1) := by
  constructor
  · intro z y
    rcases y with y | y
    · omega
    · obtain ⟨n, p0, q, e, h1, h2, h3⟩ := y
      have en : n = p - s := by omega
      subst en
      have ha := (xq_act h hs q).mpr ⟨p0, h1, h3⟩
      have hb : bt ((v &&& ac (t p)) &&& la 0) q = true := (ab_andI _ _ _).mpr ⟨ha, h2⟩
      rw [z] at hb
      exact ab_zz hb
  · intro z
    apply Classical.byContradiction
    intro y
    obtain ⟨q, hq⟩ := ab_nz y
    obtain ⟨h1, h2⟩ := (ab_andI _ _ _).mp hq
    obtain ⟨p0, h3, h4⟩ := (xq_act h hs q).mp h1
    exact z (Or.inr ⟨p - s, p0, q, by omega, h3, h2, h4⟩)
theorem xq_next (h : xq_L fi fo ac t s p v) (hs : s ≤ p) (h24 : ∀ c p, au_ac ac p c → p < 24) {w : Int32} (hw : ∀ q, bt w q = true ↔ ∃ p', p' < 24 ∧ bt (v &&& ac (t p)) p' = true ∧ bt (fo p') q = true) : xq_L fi fo ac t s (p + 1) w := by
  intro q
  rw [hw q]
  constructor
  · intro z
    obtain ⟨p', _, z2, z3⟩ := z
    obtain ⟨p0, h1, h2⟩ := (xq_act h hs p').mp z2
    exact Or.inr ⟨p - s, p0, p', by omega, h1, h2, z3⟩
  · intro z
    rcases z with z | z
    · omega
    · obtain ⟨n, p0, r, e, h1, h2, h3⟩ := z
      have en : n = p - s := by omega
      subst en
      have ha := (xq_act h hs r).mpr ⟨p0, h1, h2⟩
      exact ⟨r, h24 (t p) r ((ab_andI _ _ _).mp ha).2, ha, h3⟩
theorem xq_dead (h : xq_L fi fo ac t s p 0) (hs : s ≤ p) {e : Nat} (he : p < e) : ¬ au_A nu fi la fo ac t 0 s e := by
  intro y
  rcases y with y | y
  · omega
  · obtain ⟨n, p0, q, e1, h1, h2, h3⟩ := y
    by_cases ep : p = s
    · exact ab_zz ((h p0).mpr (Or.inl ⟨ep, h1⟩))
    · obtain ⟨k, ek⟩ : ∃ k, p = s + k + 1 := ⟨p - s - 1, by omega⟩
      obtain ⟨j, ej⟩ : ∃ j, n = (k + 1) + j := ⟨n - (k + 1), by omega⟩
      rw [ej] at h3
      obtain ⟨r', hr'⟩ := aa_run_pre h3
      obtain ⟨r, g1, g2, _⟩ := hr'
      exact ab_zz ((h r').mpr (Or.inr ⟨k, p0, r, ek, h1, g1, g2⟩))
end
section
variable {Xdc Xml Xmn Xal Xpr Xnc Xps Xtp Xsr Xhi : Int32} {Xwd Xln Xgc Xpo Xkd Xmk Xnu Xfi Xla Xfo Xac Xmd Xec Xew Xh1 Xh2 : Nat → Int32} {Xhd Xtl : Nat → Int64}
variable {d L AL s : Nat}
theorem xq_fol {post : Int32 → Prop} {x : Int32} (k : ∀ r, (∀ q, bt r q = true ↔ ∃ p, p < 24 ∧ bt x p = true ∧ bt (Xfo p) q = true) → post r) :
    ∀ (n i : Nat) (y : Int32), i ≤ 24 → 24 - i < n → (∀ q, bt y q = true ↔ ∃ p, p < i ∧ bt x p = true ∧ bt (Xfo p) q = true) → wX_followers_4 post x Xdc Xml Xmn Xal Xpr Xnc Xps Xtp Xsr Xhi Xwd Xln Xgc Xpo Xkd Xmk Xnu Xfi Xla Xfo Xac Xhd Xtl Xmd Xec Xew Xh1 Xh2 n y (nI i) := by
  intro n
  induction n with
  | zero => intro i y _ h; exact absurd h (by omega)
  | succ n ih =>
    intro i y hi hn hI
    unfold wX_followers_4
    by_cases e : i = 24
    · subst e
      exact br_t (by decide) (k y hI)
    · refine br_f (nI_ge (b := 24) (by omega) (by omega)) (br_c (fun h => ?_) (fun h => ?_))
      · have hb := (ab_t0 _ (by omega)).mp h
        refine nm_r (nI_1 i) (ih (i + 1) y (by omega) (by omega) ?_)
        intro q
        rw [hI q]
        constructor
        · intro z
          obtain ⟨p, z1, z2⟩ := z
          exact ⟨p, by omega, z2⟩
        · intro z
          obtain ⟨p, z1, z2⟩ := z
          refine ⟨p, ?_, z2⟩
          have : ¬ p = i := fun ee => by
            have z3 := z2.1
            rw [ee, hb] at z3
            exact absurd z3 (by decide)
          omega
      · have hb := (ab_n0 _ (by omega)).mp h
        refine ⟨vp_in_nI (by omega) (by omega), nm_r (e' := y ||| Xfo i) (by rw [nI_clamp (by omega)]) (nm_r (nI_1 i) (ih (i + 1) _ (by omega) (by omega) ?_))⟩
        intro q
        rw [ab_orI, hI q]
        constructor
        · intro z
          rcases z with z | z
          · obtain ⟨p, z1, z2⟩ := z
            exact ⟨p, by omega, z2⟩
          · exact ⟨i, by omega, hb, z⟩
        · intro z
          obtain ⟨p, z1, z2⟩ := z
          by_cases ee : p = i
          · subst ee
            exact Or.inr z2.2
          · exact Or.inl ⟨p, by omega, z2⟩
theorem xq_26 {post : Int32 → Prop} (hd : d < 8) (hL : L ≤ 12) (el : Xln d = nI L) (hw : rl_W Xwd AL) (hA : AL ≤ 6) (h24 : ∀ c p, au_ac Xac p c → p < 24)
    (k : ∀ r, xq_P (au_A Xnu Xfi Xla Xfo Xac (rl_t Xwd d) 0) s L r → post r) :
    ∀ (n p : Nat) (b v : Int32), s ≤ p → p ≤ L → L - p < n → xq_P (au_A Xnu Xfi Xla Xfo Xac (rl_t Xwd d) 0) s p b → xq_L Xfi Xfo Xac (rl_t Xwd d) s p v → wX_longest_26 post (nI d) Xdc Xml Xmn Xal Xpr Xnc Xps Xtp Xsr Xhi Xwd Xln Xgc Xpo Xkd Xmk Xnu Xfi Xla Xfo Xac Xhd Xtl Xmd Xec Xew Xh1 Xh2 n b v (nI p) := by
  intro n
  have v8 : vp_in (nI d) 8 := vp_in_nI (by omega) (by omega)
  have ic : (nI d).toNatClampNeg = d := nI_clamp (by omega)
  induction n with
  | zero => intro p b v _ _ h; exact absurd h (by omega)
  | succ n ih =>
    intro p b v hs hp hn hP hv
    unfold wX_longest_26
    rw [ic, el]
    refine ⟨v8, ?_⟩
    by_cases e : p = L
    · subst e
      exact br_t (nI_le (Nat.le_refl _) (by omega)) (k b hP)
    · have iw : (nI d * 12 + nI p).toNatClampNeg = d * 12 + p := by rw [ax_m12, nI_add, nI_clamp (by omega)]
      have vw : vp_in (nI d * 12 + nI p) 96 := by rw [ax_m12, nI_add]; exact vp_in_nI (by omega) (by omega)
      have ht := rl_6 hw hA d p
      have et : (nI (rl_t Xwd d p)).toNatClampNeg = rl_t Xwd d p := nI_clamp (by omega)
      refine br_f (nI_ge (by omega) (by omega)) (br_c (fun h => k b ?_) (fun h => ⟨vw, ?_⟩))
      · subst h
        rcases hP with hP | hP
        · refine Or.inl ⟨hP.1, fun e' he' => ?_⟩
          rcases Nat.lt_or_ge p e' with z | z
          · exact xq_dead hv hs z
          · exact hP.2 e' z
        · obtain ⟨e1, a1, a2, a3, a4, a5⟩ := hP
          refine Or.inr ⟨e1, a1, a2, by omega, a4, fun e' z1 z2 => ?_⟩
          rcases Nat.lt_or_ge p e' with z | z
          · exact xq_dead hv hs z
          · exact a5 e' z1 z
      · rw [iw, rl_e hw hA, et]
        have fin : ∀ b', xq_P (au_A Xnu Xfi Xla Xfo Xac (rl_t Xwd d) 0) s (p + 1) b' → wX_longest_81 post (wX_longest_26 post (nI d) Xdc Xml Xmn Xal Xpr Xnc Xps Xtp Xsr Xhi Xwd Xln Xgc Xpo Xkd Xmk Xnu Xfi Xla Xfo Xac Xhd Xtl Xmd Xec Xew Xh1 Xh2 n) (nI d) b' (nI p) (v &&& Xac (rl_t Xwd d p)) Xdc Xml Xmn Xal Xpr Xnc Xps Xtp Xsr Xhi Xwd Xln Xgc Xpo Xkd Xmk Xnu Xfi Xla Xfo Xac Xhd Xtl Xmd Xec Xew Xh1 Xh2 := by
          intro b' hb'
          unfold wX_longest_81 wpX_followers
          refine ⟨25, xq_fol (fun r hr => nm_r (nI_1 p) (ih (p + 1) b' r (by omega) (by omega) (by omega) hb' (xq_next hv hs h24 hr))) 25 0 0 (by omega) (by omega) ?_⟩
          intro q
          constructor
          · intro z
            exact absurd z ab_zz
          · intro z
            obtain ⟨p', z1, _⟩ := z
            exact absurd z1 (by omega)
        refine ⟨vp_in_nI ht (by omega), nm_e (br_c (fun h2 => fin b ?_) (fun h2 => nm_r (nI_1 p) (fin _ ?_)))⟩
        · have hno := (xq_acc (nu := Xnu) (la := Xla) hv hs).mp h2
          rcases hP with hP | hP
          · refine Or.inl ⟨hP.1, fun e' he' => ?_⟩
            by_cases ee : e' = p + 1
            · rw [ee]; exact hno
            · exact hP.2 e' (by omega)
          · obtain ⟨e1, a1, a2, a3, a4, a5⟩ := hP
            refine Or.inr ⟨e1, a1, a2, by omega, a4, fun e' z1 z2 => ?_⟩
            by_cases ee : e' = p + 1
            · rw [ee]; exact hno
            · exact a5 e' z1 (by omega)
        · have hyes : au_A Xnu Xfi Xla Xfo Xac (rl_t Xwd d) 0 s (p + 1) := Classical.byContradiction (fun z => h2 ((xq_acc (nu := Xnu) (la := Xla) hv hs).mpr z))
          exact Or.inr ⟨p + 1, rfl, by omega, Nat.le_refl _, hyes, fun e' z1 z2 => absurd z1 (by omega)⟩
theorem xq_longest {post : Int32 → Prop} (hd : d < 8) (hL : L ≤ 12) (el : Xln d = nI L) (hw : rl_W Xwd AL) (hA : AL ≤ 6) (h24 : ∀ c p, au_ac Xac p c → p < 24) (hs : s ≤ L)
    (k : ∀ r, xq_P (au_A Xnu Xfi Xla Xfo Xac (rl_t Xwd d) 0) s L r → post r) : wpX_longest post (Xdc, Xml, Xmn, Xal, Xpr, Xnc, Xps, Xtp, Xsr, Xhi, Xwd, Xln, Xgc, Xpo, Xkd, Xmk, Xnu, Xfi, Xla, Xfo, Xac, Xhd, Xtl, Xmd, Xec, Xew, Xh1, Xh2) (nI d) (nI s) := by
  have h0 : xq_L Xfi Xfo Xac (rl_t Xwd d) s s (Xfi 0) := by
    intro q
    constructor
    · intro z
      exact Or.inl ⟨rfl, z⟩
    · intro z
      rcases z with z | z
      · exact z.2
      · obtain ⟨n, _, _, e, _⟩ := z
        omega
  have k14 : ∀ b, xq_P (au_A Xnu Xfi Xla Xfo Xac (rl_t Xwd d) 0) s s b → wX_longest_14 post (nI d) (nI s) b Xdc Xml Xmn Xal Xpr Xnc Xps Xtp Xsr Xhi Xwd Xln Xgc Xpo Xkd Xmk Xnu Xfi Xla Xfo Xac Xhd Xtl Xmd Xec Xew Xh1 Xh2 := by
    intro b hb
    unfold wX_longest_14
    exact nm_e ⟨L - s + 1, xq_26 hd hL el hw hA h24 k (L - s + 1) s b (Xfi 0) (Nat.le_refl _) hs (by omega) hb h0⟩
  unfold wpX_longest
  refine br_c (fun h => k14 _ (Or.inl ⟨rfl, fun e he z => ?_⟩)) (fun h => k14 _ (Or.inr ⟨s, rfl, Nat.le_refl _, Nat.le_refl _, Or.inl ⟨h, rfl⟩, fun e' z1 z2 => absurd z1 (by omega)⟩))
  rcases z with z | z
  · exact z.1 h
  · obtain ⟨n, _, _, e, _⟩ := z
    omega
theorem xq_loc2 {post : Int32 → SX → Prop} (hd : d < 8) (hL : L ≤ 12) (el : Xln d = nI L) (hw : rl_W Xwd AL) (hA : AL ≤ 6) (h24 : ∀ c p, au_ac Xac p c → p < 24)
    (kN : sp_N (au_A Xnu Xfi Xla Xfo Xac (rl_t Xwd d) 0) L 0 → post 0 (Xdc, Xml, Xmn, Xal, Xpr, Xnc, Xps, Xtp, Xsr, Xhi, Xwd, Xln, Xgc, Xpo, Xkd, Xmk, Xnu, Xfi, Xla, Xfo, Xac, Xhd, Xtl, Xmd, Xec, Xew, Xh1, Xh2))
    (kS : ∀ s e, sp_S (au_A Xnu Xfi Xla Xfo Xac (rl_t Xwd d) 0) L 0 s e → post 1 (Xdc, Xml, Xmn, Xal, Xpr, Xnc, Xps, Xtp, Xsr, Xhi, Xwd, Xln, Xgc, Xpo, Xkd, Xmk, Xnu, Xfi, Xla, Xfo, Xac, Xhd, Xtl, Xmd, Xec, Xew, upd Xh1 d (nI s), upd Xh2 d (nI e))) :
    ∀ (n s : Nat), s ≤ L + 1 → L + 1 - s < n → (∀ s' e, s' < s → e ≤ L → ¬ au_A Xnu Xfi Xla Xfo Xac (rl_t Xwd d) 0 s' e) → wX_locate_2 post (nI d) Xdc Xml Xmn Xal Xpr Xnc Xps Xtp Xsr Xhi Xwd Xln Xgc Xpo Xkd Xmk Xnu Xfi Xla Xfo Xac Xhd Xtl Xmd Xec Xew Xh1 Xh2 n (nI s) := by
  intro n
  have v8 : vp_in (nI d) 8 := vp_in_nI (by omega) (by omega)
  have ic : (nI d).toNatClampNeg = d := nI_clamp (by omega)
  induction n with
  | zero => intro s _ h; exact absurd h (by omega)
  | succ n ih =>
    intro s hs hn hI
    unfold wX_locate_2
    rw [ic, el]
    refine ⟨v8, ?_⟩
    by_cases e : s = L + 1
    · subst e
      refine br_t (nI_lt (by omega) (by omega)) (kN ?_)
      intro s' e' _ z2 z3
      have := xq_le z3
      exact hI s' e' (by omega) z2 z3
    · refine br_f (nI_nlt (by omega) (by omega)) (xq_longest hd hL el hw hA h24 (by omega) (fun r hr => ?_))
      rcases hr with hr | hr
      · obtain ⟨e1, hr⟩ := hr
        subst e1
        refine br_t (by decide) (nm_r (nI_1 s) (ih (s + 1) (by omega) (by omega) ?_))
        intro s' e' z1 z2
        by_cases es : s' = s
        · rw [es]; exact hr e' z2
        · exact hI s' e' (by omega) z2
      · obtain ⟨e1, a1, a2, a3, a4, a5⟩ := hr
        subst a1
        exact br_f (nI_pos (by omega)) ⟨v8, nm_e ⟨v8, nm_e (kS s e1 ⟨Nat.zero_le _, a2, a3, a4, fun s' e' _ z2 z3 => hI s' e' z2 z3, a5⟩)⟩⟩
theorem xq_locate {post : Int32 → SX → Prop} (hd : d < 8) (hL : L ≤ 12) (el : Xln d = nI L) (hw : rl_W Xwd AL) (hA : AL ≤ 6) (h24 : ∀ c p, au_ac Xac p c → p < 24)
    (kN : sp_N (au_A Xnu Xfi Xla Xfo Xac (rl_t Xwd d) 0) L 0 → post 0 (Xdc, Xml, Xmn, Xal, Xpr, Xnc, Xps, Xtp, Xsr, Xhi, Xwd, Xln, Xgc, Xpo, Xkd, Xmk, Xnu, Xfi, Xla, Xfo, Xac, Xhd, Xtl, Xmd, Xec, Xew, Xh1, Xh2))
    (kS : ∀ s e, sp_S (au_A Xnu Xfi Xla Xfo Xac (rl_t Xwd d) 0) L 0 s e → post 1 (Xdc, Xml, Xmn, Xal, Xpr, Xnc, Xps, Xtp, Xsr, Xhi, Xwd, Xln, Xgc, Xpo, Xkd, Xmk, Xnu, Xfi, Xla, Xfo, Xac, Xhd, Xtl, Xmd, Xec, Xew, upd Xh1 d (nI s), upd Xh2 d (nI e))) : wpX_locate post (Xdc, Xml, Xmn, Xal, Xpr, Xnc, Xps, Xtp, Xsr, Xhi, Xwd, Xln, Xgc, Xpo, Xkd, Xmk, Xnu, Xfi, Xla, Xfo, Xac, Xhd, Xtl, Xmd, Xec, Xew, Xh1, Xh2) (nI d) := by
  unfold wpX_locate
  exact ⟨L + 2, xq_loc2 hd hL el hw hA h24 kN kS (L + 2) 0 (by omega) (by omega) (fun s' e z => absurd z (by omega))⟩
end
/-- the number of bits below n -/
def sb_n (x : Int32) : Nat → Nat
  | 0 => 0
  | n + 1 => sb_n x n + (if bt x n = true then 1 else 0)
theorem sb_congr {x y : Int32} : ∀ {n : Nat}, (∀ i, i < n → (bt x i = true ↔ bt y i = true)) → sb_n x n = sb_n y n
  | 0, _ => rfl
  | n + 1, h => by
    have ih := sb_congr (n := n) (fun i hi => h i (by omega))
    have hn := h n (by omega)
    show sb_n x n + (if bt x n = true then 1 else 0) = sb_n y n + (if bt y n = true then 1 else 0)
    rw [ih]
    by_cases e : bt x n = true
    · rw [if_pos e, if_pos (hn.mp e)]
    · rw [if_neg e, if_neg (fun z => e (hn.mpr z))]
theorem sb_sc {x : Int32} {f : Nat → Int32} : ∀ {n : Nat}, (∀ i, i < n → (bt x i = true ↔ ¬ f i = 0)) → sb_n x n = sc_n f n
  | 0, _ => rfl
  | n + 1, h => by
    have ih := sb_sc (n := n) (fun i hi => h i (by omega))
    have hn := h n (by omega)
    show sb_n x n + (if bt x n = true then 1 else 0) = sc_n f n + (if f n = 0 then 0 else 1)
    rw [ih]
    by_cases e : bt x n = true
    · rw [if_pos e, if_neg (hn.mp e)]
    · rw [if_neg e, if_pos (Classical.byContradiction (fun z => e (hn.mpr z)))]
def xq_F (A : Nat → Nat → Nat → Prop) (L : Nat → Nat) (pr : Int32) (i : Nat) : Prop := bt pr i = true ∧ ¬ sp_N (A i) (L i) 0
def xq_G (A : Nat → Nat → Nat → Prop) (L : Nat → Nat) (pr hi : Int32) (h1 h2 : Nat → Int32) (n : Nat) : Prop :=
  (∀ i, bt hi i = true ↔ (i < n ∧ xq_F A L pr i)) ∧ (∀ i, i < n → xq_F A L pr i → ∃ s e, sp_S (A i) (L i) 0 s e ∧ h1 i = nI s ∧ h2 i = nI e)
section
variable {Xdc Xml Xmn Xal Xpr Xnc Xps Xtp Xsr Xhi : Int32} {Xwd Xln Xgc Xpo Xkd Xmk Xnu Xfi Xla Xfo Xac Xmd Xec Xew Xh1 Xh2 : Nat → Int32} {Xhd Xtl : Nat → Int64}
variable {D AL : Nat} {L : Nat → Nat}
theorem xq_30 {post : Int32 → SX → Prop} {mb : Int32} (hD : D ≤ 8) (hl : ∀ d, d < 8 → Xln d = nI (L d) ∧ L d ≤ 12) (hw : rl_W Xwd AL) (hA : AL ≤ 6) (h24 : ∀ c p, au_ac Xac p c → p < 24)
    (m1 : ∀ i, bt mb i = true → bt Xpr i = true) (m2 : ∀ i, i < D → xq_F (fun i => au_A Xnu Xfi Xla Xfo Xac (rl_t Xwd i) 0) L Xpr i → bt mb i = true)
    (kk : ∀ hi h1 h2, xq_G (fun i => au_A Xnu Xfi Xla Xfo Xac (rl_t Xwd i) 0) L Xpr hi h1 h2 D → post (nI (sb_n hi D)) (nI D, Xml, Xmn, Xal, Xpr, Xnc, Xps, Xtp, Xsr, hi, Xwd, Xln, Xgc, Xpo, Xkd, Xmk, Xnu, Xfi, Xla, Xfo, Xac, Xhd, Xtl, Xmd, Xec, Xew, h1, h2)) :
    ∀ (n d : Nat) (hi : Int32) (h1 h2 : Nat → Int32), d ≤ D → D - d < n → xq_G (fun i => au_A Xnu Xfi Xla Xfo Xac (rl_t Xwd i) 0) L Xpr hi h1 h2 d →
      wX_search_30 post mb n (nI (sb_n hi d)) (nI d) (nI D) Xml Xmn Xal Xpr Xnc Xps Xtp Xsr hi Xwd Xln Xgc Xpo Xkd Xmk Xnu Xfi Xla Xfo Xac Xhd Xtl Xmd Xec Xew h1 h2 := by
  intro n
  induction n with
  | zero => intro d hi h1 h2 _ h; exact absurd h (by omega)
  | succ n ih =>
    intro d hi h1 h2 hd hn hG
    unfold wX_search_30
    by_cases e : d = D
    · subst e
      exact br_t (nI_le (Nat.le_refl _) (by omega)) (kk hi h1 h2 hG)
    · have hbd : ¬ bt hi d = true := fun z => by have := (hG.1 d).mp z; omega
      have skip : ¬ xq_F (fun i => au_A Xnu Xfi Xla Xfo Xac (rl_t Xwd i) 0) L Xpr d → wX_search_30 post mb n (nI (sb_n hi d)) (nI (d + 1)) (nI D) Xml Xmn Xal Xpr Xnc Xps Xtp Xsr hi Xwd Xln Xgc Xpo Xkd Xmk Xnu Xfi Xla Xfo Xac Xhd Xtl Xmd Xec Xew h1 h2 := by
        intro hF
        have hr := ih (d + 1) hi h1 h2 (by omega) (by omega) ⟨?_, ?_⟩
        · have es : sb_n hi (d + 1) = sb_n hi d := by
            show sb_n hi d + (if bt hi d = true then 1 else 0) = sb_n hi d
            rw [if_neg hbd]; rfl
          rw [es] at hr
          exact hr
        · intro i
          rw [hG.1 i]
          constructor
          · intro z
            exact ⟨by omega, z.2⟩
          · intro z
            have : ¬ i = d := fun ee => hF (ee ▸ z.2)
            exact ⟨by omega, z.2⟩
        · intro i z1 z2
          have : ¬ i = d := fun ee => hF (ee ▸ z2)
          exact hG.2 i (by omega) z2
      refine br_f (nI_ge (by omega) (by omega)) (br_c (fun h => nm_r (nI_1 d) (skip ?_)) (fun h => ?_))
      · intro z
        have hm := m2 d (by omega) z
        rw [(ab_t0 _ (by omega)).mp h] at hm
        exact absurd hm (by decide)
      · have hm := m1 d ((ab_n0 _ (by omega)).mp h)
        obtain ⟨l1, l2⟩ := hl d (by omega)
        refine xq_locate (Xdc := nI D) (Xhi := hi) (Xh1 := h1) (Xh2 := h2) (by omega) l2 l1 hw hA h24 (fun hN => ?_) (fun s e1 hS => ?_)
        · exact br_t rfl (nm_r (nI_1 d) (skip (fun z => z.2 hN)))
        · have hF : xq_F (fun i => au_A Xnu Xfi Xla Xfo Xac (rl_t Xwd i) 0) L Xpr d := ⟨hm, fun z => z s e1 (Nat.zero_le _) hS.2.2.1 hS.2.2.2.1⟩
          have hr := ih (d + 1) (hi ||| ((1 : Int32) <<< (nI d &&& 31))) (upd h1 d (nI s)) (upd h2 d (nI e1)) (by omega) (by omega) ⟨?_, ?_⟩
          · have es : sb_n (hi ||| ((1 : Int32) <<< (nI d &&& 31))) (d + 1) = sb_n hi d + 1 := by
              show sb_n (hi ||| ((1 : Int32) <<< (nI d &&& 31))) d + (if bt (hi ||| ((1 : Int32) <<< (nI d &&& 31))) d = true then 1 else 0) = sb_n hi d + 1
              rw [if_pos ((ab_set (by omega) _ _).mpr (Or.inr rfl)), sb_congr (y := hi)]
              intro i hi'
              rw [ab_set (by omega)]
              exact ⟨fun z => z.elim id (fun y => absurd y (by omega)), Or.inl⟩
            rw [es] at hr
            exact br_f (by decide) (nm_e (nm_r (nI_1 _) (nm_r (nI_1 d) hr)))
          · intro i
            rw [ab_set (by omega), hG.1 i]
            constructor
            · intro z
              rcases z with z | z
              · exact ⟨by omega, z.2⟩
              · subst z
                exact ⟨by omega, hF⟩
            · intro z
              by_cases ee : i = d
              · exact Or.inr ee
              · exact Or.inl ⟨by omega, z.2⟩
          · intro i z1 z2
            by_cases ee : i = d
            · subst ee
              exact ⟨s, e1, hS, pk_us, pk_us⟩
            · rw [pk_un ee, pk_un ee]
              exact hG.2 i (by omega) z2
end
end
section
/-! ===== heads, tails and seams of words ===== -/
def ah_h (t : Nat → Nat) (s e : Nat) : Nat := ad_cd t s (if e - s ≤ 2 then e - s else 2)
def ah_t (t : Nat → Nat) (s e : Nat) : Nat := if e - s ≤ 2 then ad_cd t s (e - s) else ad_cd t (e - 2) 2
def ah_hw (w : Nat) : Nat := if w ≤ 42 then w else (w - 1) / 6
def ah_tw (w : Nat) : Nat := if w ≤ 42 then w else (w - 7) % 36 + 7
section
variable {t : Nat → Nat} {s m e : Nat}
theorem ah_h_s (h : e - s ≤ 2) : ah_h t s e = ad_cd t s (e - s) := by unfold ah_h; rw [if_pos h]
theorem ah_h_l (h : 2 ≤ e - s) : ah_h t s e = ad_cd t s 2 := by
  unfold ah_h
  by_cases z : e - s ≤ 2
  · rw [if_pos z, show e - s = 2 from by omega]
  · rw [if_neg z]
theorem ah_t_s (h : e - s ≤ 2) : ah_t t s e = ad_cd t s (e - s) := by unfold ah_t; rw [if_pos h]
theorem ah_t_l (h : 2 ≤ e - s) : ah_t t s e = ad_cd t (e - 2) 2 := by
  unfold ah_t
  by_cases z : e - s ≤ 2
  · rw [if_pos z, show e - s = 2 from by omega, show e - 2 = s from by omega]
  · rw [if_neg z]
theorem ah_h_43 (ht : ∀ p, t p < 6) : ah_h t s e < 43 := by
  unfold ah_h
  refine ad_le2 ht s ?_
  by_cases z : e - s ≤ 2
  · rw [if_pos z]; exact z
  · rw [if_neg z]; omega
theorem ah_t_43 (ht : ∀ p, t p < 6) : ah_t t s e < 43 := by
  unfold ah_t
  by_cases z : e - s ≤ 2
  · rw [if_pos z]; exact ad_le2 ht s z
  · rw [if_neg z]; exact ad_le2 ht _ (Nat.le_refl _)
theorem ah_7 (ht : ∀ p, t p < 6) (h : m ≤ 1) : ad_cd t s m < 7 := by
  have h0 := ad_b0 (t := t) s
  have h1 := ad_b1 ht s
  rcases (by omega : m = 0 ∨ m = 1) with z | z <;> subst z <;> omega
/-- the head of a concatenation -/
theorem ah_hcat (ht : ∀ p, t p < 6) (h1 : s ≤ m) (h2 : m ≤ e) (h : m - s ≤ 1) : ah_h t s m < 7 ∧ ah_hw (ad_jn (ah_h t s m) (ah_h t m e)) = ah_h t s e := by
  rw [ah_h_s (by omega : m - s ≤ 2)]
  refine ⟨ah_7 ht h, ?_⟩
  obtain ⟨k, rfl⟩ : ∃ k, m = s + k := ⟨m - s, by omega⟩
  rw [show s + k - s = k from by omega] at h ⊢
  by_cases z : e - (s + k) ≤ 2
  · rw [ah_h_s z, ad_jn_cd ht s k (by omega), show k + (e - (s + k)) = e - s from by omega]
    by_cases y : e - s ≤ 2
    · have := ad_le2 ht s y
      rw [ah_h_s y]
      unfold ah_hw
      rw [if_pos (by omega)]
    · have e3 : e - s = 2 + 1 := by omega
      have := ad_ge3 (t := t) s (n := e - s) (by omega)
      rw [ah_h_l (by omega)]
      unfold ah_hw
      rw [if_neg (by omega), e3, ad_par ht]
  · rw [ah_h_l (by omega), ah_h_l (by omega), ad_jn_cd ht s k (by omega)]
    rcases (by omega : k = 0 ∨ k = 1) with y | y
    · subst y
      have := ad_le2 ht s (n := 2) (Nat.le_refl _)
      unfold ah_hw
      rw [Nat.zero_add, if_pos (by omega)]
    · subst y
      have := ad_ge3 (t := t) s (n := 2 + 1) (by omega)
      unfold ah_hw
      rw [show 1 + 2 = 2 + 1 from rfl, if_neg (by omega), ad_par ht]
theorem ah_hbig (ht : ∀ p, t p < 6) (h2 : m ≤ e) (h : 2 ≤ m - s) : 7 ≤ ah_h t s m ∧ ah_h t s e = ah_h t s m := by
  rw [ah_h_l h, ah_h_l (by omega)]
  exact ⟨(ad_b2 ht s).1, rfl⟩
/-- the tail of a concatenation -/
theorem ah_tcat (ht : ∀ p, t p < 6) (h1 : s ≤ m) (h2 : m ≤ e) (h : e - m ≤ 1) : ah_t t m e < 7 ∧ ah_tw (ad_jn (ah_t t s m) (ah_t t m e)) = ah_t t s e := by
  rw [ah_t_s (by omega : e - m ≤ 2)]
  refine ⟨ah_7 ht h, ?_⟩
  by_cases z : m - s ≤ 2
  · obtain ⟨k, rfl⟩ : ∃ k, m = s + k := ⟨m - s, by omega⟩
    rw [ah_t_s z, show s + k - s = k from by omega, ad_jn_cd ht s k (by omega), show k + (e - (s + k)) = e - s from by omega]
    by_cases y : e - s ≤ 2
    · have := ad_le2 ht s y
      rw [ah_t_s y]
      unfold ah_tw
      rw [if_pos (by omega)]
    · have e3 : e - s = 3 := by omega
      have := ad_ge3 (t := t) s (n := e - s) (by omega)
      rw [ah_t_l (by omega)]
      unfold ah_tw
      rw [if_neg (by omega), e3, ad_tl3 ht, show e - 2 = s + 1 from by omega]
  · obtain ⟨a, rfl⟩ : ∃ a, m = a + 2 := ⟨m - 2, by omega⟩
    rw [ah_t_l (by omega), ah_t_l (by omega), show a + 2 - 2 = a from by omega, ad_jn_cd ht a 2 (by omega)]
    rcases (by omega : e = a + 2 ∨ e = a + 3) with y | y
    · subst y
      have := ad_le2 ht a (n := 2) (Nat.le_refl _)
      unfold ah_tw
      rw [show 2 + (a + 2 - (a + 2)) = 2 from by omega, if_pos (by omega), show a + 2 - 2 = a from by omega]
    · subst y
      have := ad_ge3 (t := t) a (n := 3) (by omega)
      unfold ah_tw
      rw [show 2 + (a + 3 - (a + 2)) = 3 from by omega, if_neg (by omega), ad_tl3 ht, show a + 3 - 2 = a + 1 from by omega]
theorem ah_tbig (ht : ∀ p, t p < 6) (h1 : s ≤ m) (h : 2 ≤ e - m) : 7 ≤ ah_t t m e ∧ ah_t t s e = ah_t t m e := by
  rw [ah_t_l h, ah_t_l (by omega)]
  exact ⟨(ad_b2 ht _).1, rfl⟩
/-- the seam of a concatenation is a word of the text within -/
theorem ah_seam (ht : ∀ p, t p < 6) (h1 : s ≤ m) (h2 : m ≤ e) : ∃ s' n, s ≤ s' ∧ s' + n ≤ e ∧ n ≤ 4 ∧ ad_jn (ah_t t s m) (ah_h t m e) = ad_cd t s' n := by
  obtain ⟨a, ka, ea, la, hk⟩ : ∃ a ka, a + ka = m ∧ (s ≤ a ∧ ka ≤ 2) ∧ ah_t t s m = ad_cd t a ka := by
    by_cases z : m - s ≤ 2
    · exact ⟨s, m - s, by omega, ⟨Nat.le_refl _, z⟩, ah_t_s z⟩
    · exact ⟨m - 2, 2, by omega, by omega, ah_t_l (by omega)⟩
  obtain ⟨kb, eb, hb⟩ : ∃ kb, (kb ≤ 2 ∧ m + kb ≤ e) ∧ ah_h t m e = ad_cd t m kb := by
    by_cases z : e - m ≤ 2
    · exact ⟨e - m, by omega, ah_h_s z⟩
    · exact ⟨2, by omega, ah_h_l (by omega)⟩
  refine ⟨a, ka + kb, la.1, by omega, by omega, ?_⟩
  rw [hk, hb, ← ea, ad_jn_cd ht a ka (by omega)]
/-- heads of a repetition: two rounds that aren't empty decide -/
theorem ah_hpl {A : Nat → Nat → Prop} (ht : ∀ p, t p < 6) (hA : ∀ s e, A s e → s ≤ e) {H H' : Int64} (Z : Nat)
    (h0 : ∀ s e, e ≤ Z → A s e → bl H (ah_h t s e) = true) (h1 : ∀ i, bl H i = true → bl H' i = true)
    (h2 : ∀ u v, u < 7 → v < 43 → bl H u = true → bl H v = true → bl H' (ah_hw (ad_jn u v)) = true) (h : aa_pl A s e) : e ≤ Z → bl H' (ah_h t s e) = true := by
  have key : s ≤ e ∧ (e ≤ Z → bl H' (ah_h t s e) = true ∧ (s = e ∨ ∃ b, A s b ∧ s < b ∧ b ≤ e)) := by
    refine aa_pl_least (S := fun s e => s ≤ e ∧ (e ≤ Z → bl H' (ah_h t s e) = true ∧ (s = e ∨ ∃ b, A s b ∧ s < b ∧ b ≤ e))) ?_ ?_ h
    · intro a b hab
      have hle := hA a b hab
      refine ⟨hle, fun hz => ⟨h1 _ (h0 a b hz hab), ?_⟩⟩
      by_cases z : a = b
      · exact Or.inl z
      · exact Or.inr ⟨b, hab, by omega, Nat.le_refl _⟩
    · intro a b c hab hS
      have hle := hA a b hab
      obtain ⟨hbc, hS⟩ := hS
      refine ⟨by omega, fun hz => ?_⟩
      obtain ⟨s1, s2⟩ := hS hz
      by_cases z : a = b
      · subst z; exact ⟨s1, s2⟩
      · refine ⟨?_, Or.inr ⟨b, hab, by omega, hbc⟩⟩
        have hab' := h0 a b (by omega) hab
        by_cases y : 2 ≤ b - a
        · rw [(ah_hbig ht hbc y).2]; exact h1 _ hab'
        · rcases s2 with s2 | s2
          · subst s2; exact h1 _ hab'
          · obtain ⟨b', g1, g2, g3⟩ := s2
            have hb' := h0 b b' (by omega) g1
            obtain ⟨c1, c2⟩ := ah_hcat ht hle (by omega : b ≤ b') (by omega)
            have := h2 _ _ c1 (ah_h_43 ht) hab' hb'
            rw [c2, ah_h_l (by omega)] at this
            rw [ah_h_l (by omega)]
            exact this
  exact fun hz => (key.2 hz).1
theorem ah_tpl {A : Nat → Nat → Prop} (ht : ∀ p, t p < 6) (hA : ∀ s e, A s e → s ≤ e) {H H' : Int64} (Z : Nat)
    (h0 : ∀ s e, e ≤ Z → A s e → bl H (ah_t t s e) = true) (h1 : ∀ i, bl H i = true → bl H' i = true)
    (h2 : ∀ u v, u < 43 → v < 7 → bl H u = true → bl H v = true → bl H' (ah_tw (ad_jn u v)) = true) (h : aa_pl A s e) : e ≤ Z → bl H' (ah_t t s e) = true := by
  have key : s ≤ e ∧ (e ≤ Z → bl H' (ah_t t s e) = true ∧ (s = e ∨ ∃ b, A b e ∧ s ≤ b ∧ b < e)) := by
    refine aa_pl_least (S := fun s e => s ≤ e ∧ (e ≤ Z → bl H' (ah_t t s e) = true ∧ (s = e ∨ ∃ b, A b e ∧ s ≤ b ∧ b < e))) ?_ ?_ h
    · intro a b hab
      have hle := hA a b hab
      refine ⟨hle, fun hz => ⟨h1 _ (h0 a b hz hab), ?_⟩⟩
      by_cases z : a = b
      · exact Or.inl z
      · exact Or.inr ⟨a, hab, Nat.le_refl _, by omega⟩
    · intro a b c hab hS
      have hle := hA a b hab
      obtain ⟨hbc, hS⟩ := hS
      refine ⟨by omega, fun hz => ?_⟩
      obtain ⟨s1, s2⟩ := hS hz
      have hab' := h0 a b (by omega) hab
      rcases s2 with s2 | s2
      · subst s2
        refine ⟨h1 _ hab', ?_⟩
        by_cases z : a = b
        · exact Or.inl z
        · exact Or.inr ⟨a, hab, Nat.le_refl _, by omega⟩
      · obtain ⟨b', g1, g2, g3⟩ := s2
        refine ⟨?_, Or.inr ⟨b', g1, by omega, g3⟩⟩
        by_cases y : 2 ≤ c - b
        · rw [(ah_tbig ht hle y).2]; exact s1
        · have eb : b' = b := by omega
          subst eb
          have hb' := h0 b' c hz g1
          obtain ⟨c1, c2⟩ := ah_tcat ht hle hbc (by omega)
          have := h2 _ _ (ah_t_43 ht) c1 hab' hb'
          rw [c2] at this
          exact this
  exact fun hz => (key.2 hz).1
theorem ah_first {A : Nat → Nat → Prop} (hA : ∀ s e, A s e → s ≤ e) (h : aa_pl A s e) : ∃ b, A s b ∧ b ≤ e := by
  have key : s ≤ e ∧ ∃ b, A s b ∧ b ≤ e := by
    refine aa_pl_least (S := fun s e => s ≤ e ∧ ∃ b, A s b ∧ b ≤ e) ?_ ?_ h
    · intro a b hab
      exact ⟨hA a b hab, b, hab, Nat.le_refl _⟩
    · intro a b c hab hS
      have := hA a b hab
      exact ⟨by omega, b, hab, hS.1⟩
  exact key.2
theorem ah_jn_lt {u v : Nat} (hu : u < 43) (hv : v < 43) : ad_jn u v < 2000 ∧ (u < 7 ∨ v < 7 → ad_jn u v < 259) := by
  unfold ad_jn ad_wl
  (repeat' split) <;> (try rw [show (6 : Nat) ^ 0 = 1 from rfl]) <;> (try rw [show (6 : Nat) ^ 1 = 6 from rfl]) <;> (try rw [show (6 : Nat) ^ 2 = 36 from rfl]) <;> omega
end
end
section
/-! ===== X: the helpers of the analysis ===== -/
def an_E (pr : Int32) (po : Nat → Int32) (L : Nat → Nat) (tt : Nat → Nat → Nat) : Prop :=
  (∀ d p, tt d p < 6) ∧ (∀ d, bt pr d = true → L d ≤ 12) ∧ (∀ d p, bt pr d = true → p + 2 < L d → bt (po (ad_tri (tt d) p)) d = true)
def an_D (pr : Int32) (L : Nat → Nat) (tt : Nat → Nat → Nat) (r code : Int32) : Prop :=
  ∀ d s n, bt pr d = true → s + n ≤ L d → n ≤ 10 → code = nI (ad_cd (tt d) s n) → bt r d = true
def an_le (pr r : Int32) : Prop := ∀ d, bt r d = true → bt pr d = true
def an_J (u v r : Int32) : Prop := ∀ a b, u = nI a → v = nI b → a < 9331 → b < 9331 → r = nI (ad_jn a b)
def an_thr : Nat → Nat
  | 0 => 1
  | i + 1 => an_thr i * 6 + 1
theorem an_wl {i b : Nat} (hi : i ≤ 5) (hb : b < 9331) : b < an_thr i ↔ ad_wl b ≤ i := by
  unfold ad_wl
  rcases (by omega : i = 0 ∨ i = 1 ∨ i = 2 ∨ i = 3 ∨ i = 4 ∨ i = 5) with e | e | e | e | e | e
  · subst e; rw [show an_thr 0 = 1 from rfl]; (repeat' split) <;> omega
  · subst e; rw [show an_thr 1 = 7 from rfl]; (repeat' split) <;> omega
  · subst e; rw [show an_thr 2 = 43 from rfl]; (repeat' split) <;> omega
  · subst e; rw [show an_thr 3 = 259 from rfl]; (repeat' split) <;> omega
  · subst e; rw [show an_thr 4 = 1555 from rfl]; (repeat' split) <;> omega
  · subst e; rw [show an_thr 5 = 9331 from rfl]; (repeat' split) <;> omega
theorem an_wl5 {b : Nat} (hb : b < 9331) : ad_wl b ≤ 5 := (an_wl (i := 5) (by omega) hb).mp hb
theorem an_thr5 {i : Nat} (hi : i ≤ 5) : an_thr i < 2 ^ 31 := by
  rcases (by omega : i = 0 ∨ i = 1 ∨ i = 2 ∨ i = 3 ∨ i = 4 ∨ i = 5) with e | e | e | e | e | e <;> subst e <;> decide
theorem an_d {x n : Nat} {v : Int32} (hv : v = nI n) (h : n < 2 ^ 31) : ¬ v < 0 := by rw [hv]; exact nI_pos h
theorem an_le_or {pr r r' : Int32} (h : an_le pr r) (h' : an_le pr r') : an_le pr (r ||| r') := fun d z => ((ab_orI _ _ _).mp z).elim (h d) (h' d)
theorem an_le_0 {pr : Int32} : an_le pr 0 := fun d z => absurd z ab_zz
theorem an_D_or1 {pr : Int32} {L : Nat → Nat} {tt : Nat → Nat → Nat} {r r' c : Int32} (h : an_D pr L tt r c) : an_D pr L tt (r ||| r') c := fun d s n a b e f => (ab_orI _ _ _).mpr (Or.inl (h d s n a b e f))
theorem an_D_or2 {pr : Int32} {L : Nat → Nat} {tt : Nat → Nat → Nat} {r r' c : Int32} (h : an_D pr L tt r' c) : an_D pr L tt (r ||| r') c := fun d s n a b e f => (ab_orI _ _ _).mpr (Or.inr (h d s n a b e f))
section
variable {Xdc Xml Xmn Xal Xpr Xnc Xps Xtp Xsr Xhi : Int32} {Xwd Xln Xgc Xpo Xkd Xmk Xnu Xfi Xla Xfo Xac Xmd Xec Xew Xh1 Xh2 : Nat → Int32} {Xhd Xtl : Nat → Int64}
variable {L : Nat → Nat} {tt : Nat → Nat → Nat}
theorem an_jl {post : Int32 → Prop} {u v : Int32} (k : ∀ r, an_J u v r → post r) :
    ∀ (n i : Nat) (y z : Int32), i ≤ 6 → 6 - i < n → (∀ b, v = nI b → b < 9331 → i ≤ ad_wl b ∧ y = nI (6 ^ i) ∧ z = nI (an_thr i)) → wX_join_8 post u v Xdc Xml Xmn Xal Xpr Xnc Xps Xtp Xsr Xhi Xwd Xln Xgc Xpo Xkd Xmk Xnu Xfi Xla Xfo Xac Xhd Xtl Xmd Xec Xew Xh1 Xh2 n y z (nI i) := by
  intro n
  induction n with
  | zero => intro i y z _ h; exact absurd h (by omega)
  | succ n ih =>
    intro i y z hi hn hI
    unfold wX_join_8
    by_cases e : i = 6
    · subst e
      refine br_t (by decide) (k _ ?_)
      intro a b _ eb _ hb
      have := (hI b eb hb).1
      have := an_wl5 hb
      omega
    · refine br_f (nI_ge (b := 6) (by omega) (by omega)) (br_c (fun h => k _ ?_) (fun h => nm_e (nm_e (nm_r (nI_1 i) (ih (i + 1) _ _ (by omega) (by omega) ?_)))))
      · intro a b ea eb _ hb
        obtain ⟨g1, g2, g3⟩ := hI b eb hb
        rw [eb, g3, nI_ltI (by omega) (an_thr5 (by omega)), an_wl (by omega) hb] at h
        have ew : ad_wl b = i := by omega
        unfold ad_jn
        rw [ew, ea, eb, g2, pk_mul, nI_add]
      · intro b eb hb
        obtain ⟨g1, g2, g3⟩ := hI b eb hb
        rw [eb, g3, nI_ltI (by omega) (an_thr5 (by omega)), an_wl (by omega) hb] at h
        refine ⟨by omega, ?_, ?_⟩
        · rw [g2, ax_m6, Nat.pow_succ]
        · rw [g3, ax_m6, nI_1]; rfl
theorem an_join {post : Int32 → Prop} {u v : Int32} (k : ∀ r, an_J u v r → post r) : wpX_join post (Xdc, Xml, Xmn, Xal, Xpr, Xnc, Xps, Xtp, Xsr, Xhi, Xwd, Xln, Xgc, Xpo, Xkd, Xmk, Xnu, Xfi, Xla, Xfo, Xac, Xhd, Xtl, Xmd, Xec, Xew, Xh1, Xh2) u v := by
  unfold wpX_join
  exact ⟨7, an_jl k 7 0 1 1 (by omega) (by omega) (fun b _ _ => ⟨Nat.zero_le _, rfl, rfl⟩)⟩
theorem an_dl {post : Int32 → Prop} {code : Int32} (hE : an_E Xpr Xpo L tt) (k : ∀ r, an_le Xpr r → an_D Xpr L tt r code → post r) :
    ∀ (n i : Nat) (f rest : Int32), i ≤ 8 → 8 - i < n → an_le Xpr f →
      (∀ d s m, bt Xpr d = true → s + m ≤ L d → m ≤ 10 → code = nI (ad_cd (tt d) s m) → bt f d = true ∧ ∃ q, q ≤ m ∧ rest = nI (ad_cd (tt d) s q)) →
      wX_docsWith_10 post Xdc Xml Xmn Xal Xpr Xnc Xps Xtp Xsr Xhi Xwd Xln Xgc Xpo Xkd Xmk Xnu Xfi Xla Xfo Xac Xhd Xtl Xmd Xec Xew Xh1 Xh2 n f rest (nI i) := by
  intro n
  obtain ⟨hT, hL, hP⟩ := hE
  induction n with
  | zero => intro i f rest _ h; exact absurd h (by omega)
  | succ n ih =>
    intro i f rest hi hn hle hI
    unfold wX_docsWith_10
    by_cases e : i = 8
    · subst e
      exact br_t (by decide) (k f hle (fun d s m a b c h => (hI d s m a b c h).1))
    · refine br_f (nI_ge (b := 8) (by omega) (by omega)) (br_c (fun _ => k f hle (fun d s m a b c h => (hI d s m a b c h).1)) (fun h => ?_))
      have h0 : ¬ rest < 0 := fun z => h (Int32.le_of_lt (Int32.lt_trans z (by decide)))
      obtain ⟨v, hv, ev⟩ := nI_of h0
      subst ev
      have h43 : 42 < v := by
        rcases Nat.lt_or_ge 42 v with z | z
        · exact z
        · exact absurd (nI_le (b := 42) z (by omega)) h
      have e1 : nI v - 43 = nI (v - 43) := pk_sub (b := 43) (by omega)
      have e2 : (nI v - 43) - (nI v - 43) / 216 * 216 = nI ((v - 43) % 216) := by rw [e1]; exact pk_rem (d := 216) (by omega) (by omega) (by omega)
      have e3 : (nI v - 1) / 6 = nI ((v - 1) / 6) := by rw [show nI v - 1 = nI (v - 1) from pk_sub (b := 1) (by omega)]; exact pk_div (d := 6) (by omega) (by omega) (by omega)
      have hlt : (v - 43) % 216 < 216 := Nat.mod_lt _ (by omega)
      rw [e2, e3, nI_clamp (by omega)]
      refine ⟨by decide, vp_in_nI hlt (by omega), nm_e ⟨by decide, nm_e (nm_r (nI_1 i) (ih (i + 1) _ _ (by omega) (by omega) ?_ ?_))⟩⟩
      · intro d z
        exact hle d ((ab_andI _ _ _).mp z).1
      · intro d s m a b c g
        obtain ⟨g1, q, g2, g3⟩ := hI d s m a b c g
        have hc := ad_le10 (hT d) s (n := q) (by omega)
        rw [nI_eq hv hc] at g3
        have hq : 3 ≤ q := by
          rcases Nat.lt_or_ge q 3 with z | z
          · have := ad_le2 (hT d) s (n := q) (by omega)
            omega
          · exact z
        obtain ⟨q', eq⟩ : ∃ q', q = q' + 3 := ⟨q - 3, by omega⟩
        subst eq
        refine ⟨(ab_andI _ _ _).mpr ⟨g1, ?_⟩, q' + 2, by omega, ?_⟩
        · rw [g3, ad_tri_cd (hT d)]
          exact hP d (s + q') a (by omega)
        · rw [g3, ad_par (hT d)]
theorem an_dw {post : Int32 → Prop} {code : Int32} (hE : an_E Xpr Xpo L tt) (k : ∀ r, an_le Xpr r → an_D Xpr L tt r code → post r) : wpX_docsWith post (Xdc, Xml, Xmn, Xal, Xpr, Xnc, Xps, Xtp, Xsr, Xhi, Xwd, Xln, Xgc, Xpo, Xkd, Xmk, Xnu, Xfi, Xla, Xfo, Xac, Xhd, Xtl, Xmd, Xec, Xew, Xh1, Xh2) code := by
  unfold wpX_docsWith
  exact ⟨9, an_dl hE k 9 0 Xpr code (by omega) (by omega) (fun _ z => z) (fun d s m a b c g => ⟨a, m, Nat.le_refl _, g⟩)⟩
theorem an_xl {post : Int32 → Prop} {x n0 : Nat} (hE : an_E Xpr Xpo L tt) (hx : x < 9) (hn0 : n0 ≤ 8) (ec : Xec x = nI n0)
    (k : ∀ r, an_le Xpr r → (∀ i, i < n0 → an_D Xpr L tt r (Xew (x * 8 + i))) → post r) :
    ∀ (n i : Nat) (f : Int32), i ≤ n0 → n0 - i < n → an_le Xpr f → (∀ j, j < i → an_D Xpr L tt f (Xew (x * 8 + j))) → wX_exactDocs_4 post (nI x) Xdc Xml Xmn Xal Xpr Xnc Xps Xtp Xsr Xhi Xwd Xln Xgc Xpo Xkd Xmk Xnu Xfi Xla Xfo Xac Xhd Xtl Xmd Xec Xew Xh1 Xh2 n f (nI i) := by
  intro n
  have v9 : vp_in (nI x) 9 := vp_in_nI (by omega) (by omega)
  have ic : (nI x).toNatClampNeg = x := nI_clamp (by omega)
  induction n with
  | zero => intro i f _ h; exact absurd h (by omega)
  | succ n ih =>
    intro i f hi hn hle hI
    unfold wX_exactDocs_4
    rw [ic, ec]
    refine ⟨v9, ?_⟩
    by_cases e : i = n0
    · subst e
      exact br_t (nI_le (Nat.le_refl _) (by omega)) (k f hle hI)
    · refine br_f (nI_ge (by omega) (by omega)) ?_
      rw [ax_m8, nI_add, nI_clamp (by omega)]
      refine ⟨vp_in_nI (by omega) (by omega), an_dw hE (fun r h1 h2 => nm_e (nm_r (nI_1 i) (ih (i + 1) _ (by omega) (by omega) (an_le_or hle h1) ?_)))⟩
      intro j hj
      by_cases ej : j = i
      · subst ej; exact an_D_or2 h2
      · exact an_D_or1 (hI j (by omega))
theorem an_xd {post : Int32 → Prop} {x : Nat} (hE : an_E Xpr Xpo L tt) (hx : x < 9) (hW : Xec x = -1 ∨ ∃ n, n ≤ 8 ∧ Xec x = nI n)
    (k : ∀ r, an_le Xpr r → (∀ n i, n ≤ 8 → Xec x = nI n → i < n → an_D Xpr L tt r (Xew (x * 8 + i))) → post r) : wpX_exactDocs post (Xdc, Xml, Xmn, Xal, Xpr, Xnc, Xps, Xtp, Xsr, Xhi, Xwd, Xln, Xgc, Xpo, Xkd, Xmk, Xnu, Xfi, Xla, Xfo, Xac, Xhd, Xtl, Xmd, Xec, Xew, Xh1, Xh2) (nI x) := by
  unfold wpX_exactDocs
  rcases hW with h | h
  · refine ⟨1, ?_⟩
    unfold wX_exactDocs_4
    rw [nI_clamp (by omega), h]
    refine ⟨vp_in_nI (by omega) (by omega), br_t (by decide) (k 0 an_le_0 ?_)⟩
    intro n i hn e
    exact absurd (show (-1 : Int32) < 0 from by decide) (by rw [← h, e]; exact nI_pos (by omega))
  · obtain ⟨n0, h1, h2⟩ := h
    refine ⟨n0 + 1, an_xl hE hx h1 h2 (fun r g1 g2 => k r g1 ?_) (n0 + 1) 0 0 (by omega) (by omega) an_le_0 (fun j hj => absurd hj (by omega))⟩
    intro n i hn e hi
    rw [h2, nI_eq (by omega) (by omega)] at e
    exact g2 i (by omega)
end
/-! exact sets -/
def an_W (ec ew : Nat → Int32) (x : Nat) : Prop := ec x = -1 ∨ ∃ n, n ≤ 8 ∧ ec x = nI n ∧ ∀ i, i < n → ew (x * 8 + i) ≤ 9330
def an_H (ec ew : Nat → Int32) (x : Nat) (c : Int32) : Prop := ec x = -1 ∨ ∃ n i, n ≤ 8 ∧ i < n ∧ ec x = nI n ∧ ew (x * 8 + i) = c
def an_O (x : Nat) (ec ew ec' ew' : Nat → Int32) : Prop := (∀ y, ¬ y = x → ec' y = ec y) ∧ (∀ j, (j < x * 8 ∨ x * 8 + 8 ≤ j) → ew' j = ew j)
theorem an_Oid {x : Nat} {ec ew : Nat → Int32} : an_O x ec ew ec ew := ⟨fun _ _ => rfl, fun _ _ => rfl⟩
theorem an_Otr {x : Nat} {ec ew ec' ew' ec'' ew'' : Nat → Int32} (h : an_O x ec ew ec' ew') (h' : an_O x ec' ew' ec'' ew'') : an_O x ec ew ec'' ew'' :=
  ⟨fun y hy => (h'.1 y hy).trans (h.1 y hy), fun j hj => (h'.2 j hj).trans (h.2 j hj)⟩
theorem an_Wo {x y : Nat} {ec ew ec' ew' : Nat → Int32} (h : an_O x ec ew ec' ew') (hy : ¬ y = x) (hW : an_W ec ew y) : an_W ec' ew' y := by
  rcases hW with g | g
  · exact Or.inl ((h.1 y hy).trans g)
  · obtain ⟨n, g1, g2, g3⟩ := g
    refine Or.inr ⟨n, g1, (h.1 y hy).trans g2, fun i hi => ?_⟩
    rw [h.2 (y * 8 + i) (by omega)]; exact g3 i hi
theorem an_Ho {x y : Nat} {ec ew ec' ew' : Nat → Int32} {c : Int32} (h : an_O x ec ew ec' ew') (hy : ¬ y = x) (hH : an_H ec ew y c) : an_H ec' ew' y c := by
  rcases hH with g | g
  · exact Or.inl ((h.1 y hy).trans g)
  · obtain ⟨n, i, g0, g1, g2, g3⟩ := g
    refine Or.inr ⟨n, i, g0, g1, (h.1 y hy).trans g2, ?_⟩
    rw [h.2 (y * 8 + i) (by omega)]; exact g3
section
variable {Xdc Xml Xmn Xal Xpr Xnc Xps Xtp Xsr Xhi : Int32} {Xwd Xln Xgc Xpo Xkd Xmk Xnu Xfi Xla Xfo Xac Xmd Xec Xew Xh1 Xh2 : Nat → Int32} {Xhd Xtl : Nat → Int64}
theorem an_al {post : SX → Prop} {x n0 : Nat} {code : Int32} (hx : x ≤ 8) (hn0 : n0 ≤ 8) (ec : Xec x = nI n0) (hb : ∀ i, i < n0 → Xew (x * 8 + i) ≤ 9330)
    (k : ∀ ec ew, an_W ec ew x → an_O x Xec Xew ec ew → (∀ c, an_H Xec Xew x c → an_H ec ew x c) → an_H ec ew x code → (∀ n, n < 8 → Xec x = nI n → code ≤ 9330 → ∃ n', n' ≤ n + 1 ∧ ec x = nI n') → post (Xdc, Xml, Xmn, Xal, Xpr, Xnc, Xps, Xtp, Xsr, Xhi, Xwd, Xln, Xgc, Xpo, Xkd, Xmk, Xnu, Xfi, Xla, Xfo, Xac, Xhd, Xtl, Xmd, ec, ew, Xh1, Xh2)) :
    ∀ (n i : Nat), i ≤ n0 → n0 - i < n → wX_addExact_15 post (nI x) code (nI n0) Xdc Xml Xmn Xal Xpr Xnc Xps Xtp Xsr Xhi Xwd Xln Xgc Xpo Xkd Xmk Xnu Xfi Xla Xfo Xac Xhd Xtl Xmd Xec Xew Xh1 Xh2 n (nI i) := by
  intro n
  have v9 : vp_in (nI x) 9 := vp_in_nI (by omega) (by omega)
  have ic : (nI x).toNatClampNeg = x := nI_clamp (by omega)
  have km1 : (n0 = 8 ∨ ¬ code ≤ 9330) → post (Xdc, Xml, Xmn, Xal, Xpr, Xnc, Xps, Xtp, Xsr, Xhi, Xwd, Xln, Xgc, Xpo, Xkd, Xmk, Xnu, Xfi, Xla, Xfo, Xac, Xhd, Xtl, Xmd, upd Xec x (-1), Xew, Xh1, Xh2) := by
    intro hh
    refine k (upd Xec x (-1)) Xew (Or.inl pk_us) ⟨fun y hy => pk_un hy, fun _ _ => rfl⟩ (fun c _ => Or.inl pk_us) (Or.inl pk_us) ?_
    intro n1 h1 h2 h3
    rw [ec, nI_eq (by omega) (by omega)] at h2
    exact hh.elim (fun z => absurd z (by omega)) (fun z => absurd h3 z)
  induction n with
  | zero => intro i _ h; exact absurd h (by omega)
  | succ n ih =>
    intro i hi hn
    unfold wX_addExact_15
    rw [ic]
    by_cases e : i = n0
    · subst e
      refine br_t (nI_le (Nat.le_refl _) (by omega)) ?_
      by_cases e8 : i = 8
      · subst e8
        exact br_t (by decide) ⟨v9, nm_e (km1 (Or.inl rfl))⟩
      · refine br_f (nI_ge (b := 8) (by omega) (by omega)) (br_c (fun h => ?_) (fun h => ⟨v9, nm_e (km1 (Or.inr h))⟩))
        rw [ax_m8, nI_add, nI_clamp (by omega), nI_1]
        refine ⟨vp_in_nI (by omega) (by omega), nm_e ⟨v9, nm_e (k _ _ (Or.inr ⟨i + 1, by omega, pk_us, ?_⟩) ⟨fun y hy => pk_un hy, fun j hj => pk_un (by omega)⟩ ?_ (Or.inr ⟨i + 1, i, by omega, by omega, pk_us, pk_us⟩) ?_)⟩⟩
        · intro j hj
          by_cases ej : j = i
          · rw [ej, pk_us]; exact h
          · rw [pk_un (by omega)]; exact hb j (by omega)
        · intro c hc
          rcases hc with hc | hc
          · exact absurd (show (-1 : Int32) < 0 from by decide) (by rw [← hc, ec]; exact nI_pos (by omega))
          · obtain ⟨n1, j, g0, g1, g2, g3⟩ := hc
            rw [ec, nI_eq (by omega) (by omega)] at g2
            refine Or.inr ⟨i + 1, j, by omega, by omega, pk_us, ?_⟩
            rw [pk_un (by omega)]; exact g3
        · intro n1 h1 h2 _
          rw [ec, nI_eq (by omega) (by omega)] at h2
          exact ⟨i + 1, by omega, pk_us⟩
    · refine br_f (nI_ge (by omega) (by omega)) ?_
      rw [ax_m8, nI_add, nI_clamp (by omega)]
      refine ⟨vp_in_nI (by omega) (by omega), br_c (fun h => ?_) (fun h => nm_r (nI_1 i) (ih (i + 1) (by omega) (by omega)))⟩
      exact k Xec Xew (Or.inr ⟨n0, hn0, ec, hb⟩) an_Oid (fun c hc => hc) (Or.inr ⟨n0, i, hn0, by omega, ec, h⟩) (fun n1 _ h2 _ => ⟨n1, by omega, h2⟩)
theorem an_add {post : SX → Prop} {x : Nat} {code : Int32} (hx : x ≤ 8) (hW : an_W Xec Xew x)
    (k : ∀ ec ew, an_W ec ew x → an_O x Xec Xew ec ew → (∀ c, an_H Xec Xew x c → an_H ec ew x c) → an_H ec ew x code → (∀ n, n < 8 → Xec x = nI n → code ≤ 9330 → ∃ n', n' ≤ n + 1 ∧ ec x = nI n') → post (Xdc, Xml, Xmn, Xal, Xpr, Xnc, Xps, Xtp, Xsr, Xhi, Xwd, Xln, Xgc, Xpo, Xkd, Xmk, Xnu, Xfi, Xla, Xfo, Xac, Xhd, Xtl, Xmd, ec, ew, Xh1, Xh2)) : wpX_addExact post (Xdc, Xml, Xmn, Xal, Xpr, Xnc, Xps, Xtp, Xsr, Xhi, Xwd, Xln, Xgc, Xpo, Xkd, Xmk, Xnu, Xfi, Xla, Xfo, Xac, Xhd, Xtl, Xmd, Xec, Xew, Xh1, Xh2) (nI x) code := by
  unfold wpX_addExact
  rw [nI_clamp (by omega)]
  refine ⟨vp_in_nI (by omega) (by omega), nm_e ?_⟩
  rcases hW with h | h
  · rw [h]
    exact br_f (by decide) (k Xec Xew (Or.inl h) an_Oid (fun c hc => hc) (Or.inl h) (fun n1 _ h2 _ => ⟨n1, by omega, h2⟩))
  · obtain ⟨n0, h1, h2, h3⟩ := h
    rw [h2]
    exact br_t (nI_pos' (by omega)) ⟨n0 + 1, an_al hx h1 h2 h3 k (n0 + 1) 0 (by omega) (by omega)⟩
end
section
variable {Xdc Xml Xmn Xal Xpr Xnc Xps Xtp Xsr Xhi : Int32} {Xwd Xln Xgc Xpo Xkd Xmk Xnu Xfi Xla Xfo Xac Xmd Xec Xew Xh1 Xh2 : Nat → Int32} {Xhd Xtl : Nat → Int64}
variable {L : Nat → Nat} {tt : Nat → Nat → Nat} {T H : Int64}
theorem an_s25 {post : Int32 → Prop} {J : Int32 → Int32 → Prop} {u : Nat} (hE : an_E Xpr Xpo L tt) (hu : u < 43)
    (k : ∀ f, an_le Xpr f → (∀ u' v', u' < u + 1 → v' < 43 → bl T u' = true → bl H v' = true → an_D Xpr L tt f (nI (ad_jn u' v'))) → J f (nI (u + 1))) :
    ∀ (n v : Nat) (f : Int32), v ≤ 43 → 43 - v < n → an_le Xpr f → (∀ u' v', (u' < u ∨ (u' = u ∧ v' < v)) → v' < 43 → bl T u' = true → bl H v' = true → an_D Xpr L tt f (nI (ad_jn u' v'))) →
      wX_seamDocs_25 post J T H (nI u) Xdc Xml Xmn Xal Xpr Xnc Xps Xtp Xsr Xhi Xwd Xln Xgc Xpo Xkd Xmk Xnu Xfi Xla Xfo Xac Xhd Xtl Xmd Xec Xew Xh1 Xh2 n f (nI v) := by
  intro n
  induction n with
  | zero => intro v f _ h; exact absurd h (by omega)
  | succ n ih =>
    intro v f hv hn hle hI
    unfold wX_seamDocs_25
    by_cases e : v = 43
    · subst e
      refine br_t (by decide) (nm_r (nI_1 u) (k f hle ?_))
      intro u' v' h1 h2
      exact hI u' v' (by omega) h2
    · refine br_f (nI_ge (b := 43) (by omega) (by omega)) (br_c (fun h => ?_) (fun h => ?_))
      · have hb := (bl_t2 _ _ (by omega) (by omega)).mp h
        refine nm_r (nI_1 v) (ih (v + 1) f (by omega) (by omega) hle ?_)
        intro u' v' h1 h2 h3 h4
        by_cases ee : u' = u ∧ v' = v
        · rw [ee.1] at h3
          rw [ee.2] at h4
          exact absurd ⟨h3, h4⟩ hb
        · exact hI u' v' (by omega) h2 h3 h4
      · refine an_join (fun r hr => an_dw hE (fun r' h1 h2 => nm_e (nm_r (nI_1 v) (ih (v + 1) _ (by omega) (by omega) (an_le_or hle h1) ?_))))
        intro u' v' g1 g2 g3 g4
        by_cases ee : u' = u ∧ v' = v
        · obtain ⟨e1, e2⟩ := ee
          subst e1; subst e2
          rw [hr u' v' rfl rfl (by omega) (by omega)] at h2
          exact an_D_or2 h2
        · exact an_D_or1 (hI u' v' (by omega) g2 g3 g4)
theorem an_s6 {post : Int32 → Prop} (hE : an_E Xpr Xpo L tt)
    (k : ∀ f, an_le Xpr f → (∀ u v, u < 43 → v < 43 → bl T u = true → bl H v = true → an_D Xpr L tt f (nI (ad_jn u v))) → post f) :
    ∀ (n u : Nat) (f : Int32), u ≤ 43 → 43 - u < n → an_le Xpr f → (∀ u' v', u' < u → v' < 43 → bl T u' = true → bl H v' = true → an_D Xpr L tt f (nI (ad_jn u' v'))) →
      wX_seamDocs_6 post T H Xdc Xml Xmn Xal Xpr Xnc Xps Xtp Xsr Xhi Xwd Xln Xgc Xpo Xkd Xmk Xnu Xfi Xla Xfo Xac Xhd Xtl Xmd Xec Xew Xh1 Xh2 n f (nI u) := by
  intro n
  induction n with
  | zero => intro u f _ h; exact absurd h (by omega)
  | succ n ih =>
    intro u f hu hn hle hI
    unfold wX_seamDocs_6
    by_cases e : u = 43
    · subst e
      exact br_t (by decide) (k f hle hI)
    · refine br_f (nI_ge (b := 43) (by omega) (by omega)) (br_c (fun h => k f hle ?_) (fun h => ?_))
      · intro u' v' _ _ _ _ d s n a _ _ _
        rw [h]; exact a
      · refine ⟨44, an_s25 hE (by omega) (fun f' h1 h2 => ih (u + 1) f' (by omega) (by omega) h1 h2) 44 0 f (by omega) (by omega) hle ?_⟩
        intro u' v' g1 g2
        exact hI u' v' (by omega) g2
theorem an_seam {post : Int32 → Prop} (hE : an_E Xpr Xpo L tt)
    (k : ∀ f, an_le Xpr f → (∀ u v, u < 43 → v < 43 → bl T u = true → bl H v = true → an_D Xpr L tt f (nI (ad_jn u v))) → post f) : wpX_seamDocs post (Xdc, Xml, Xmn, Xal, Xpr, Xnc, Xps, Xtp, Xsr, Xhi, Xwd, Xln, Xgc, Xpo, Xkd, Xmk, Xnu, Xfi, Xla, Xfo, Xac, Xhd, Xtl, Xmd, Xec, Xew, Xh1, Xh2) T H := by
  unfold wpX_seamDocs
  exact ⟨44, an_s6 hE k 44 0 0 (by omega) (by omega) an_le_0 (fun u' v' h => absurd h (by omega))⟩
theorem an_h30 {post : Int64 → Prop} {J : Int64 → Int32 → Prop} {u : Nat} {o0 : Int64} (hu : u < 7)
    (k : ∀ o, (∀ i, bl o0 i = true → bl o i = true) → (∀ u' v', u' < u + 1 → v' < 43 → bl T u' = true → bl H v' = true → bl o (ah_hw (ad_jn u' v')) = true) → J o (nI (u + 1))) :
    ∀ (n v : Nat) (o : Int64), v ≤ 43 → 43 - v < n → (∀ i, bl o0 i = true → bl o i = true) → (∀ u' v', (u' < u ∨ (u' = u ∧ v' < v)) → v' < 43 → bl T u' = true → bl H v' = true → bl o (ah_hw (ad_jn u' v')) = true) →
      wX_catHeads_30 post J T H (nI u) Xdc Xml Xmn Xal Xpr Xnc Xps Xtp Xsr Xhi Xwd Xln Xgc Xpo Xkd Xmk Xnu Xfi Xla Xfo Xac Xhd Xtl Xmd Xec Xew Xh1 Xh2 n o (nI v) := by
  intro n
  induction n with
  | zero => intro v o _ h; exact absurd h (by omega)
  | succ n ih =>
    intro v o hv hn h0 hI
    unfold wX_catHeads_30
    by_cases e : v = 43
    · subst e
      refine br_t (by decide) (nm_r (nI_1 u) (k o h0 ?_))
      intro u' v' h1 h2
      exact hI u' v' (by omega) h2
    · refine br_f (nI_ge (b := 43) (by omega) (by omega)) (br_c (fun h => ?_) (fun h => ?_))
      · have hb := (bl_t2 _ _ (by omega) (by omega)).mp h
        refine nm_r (nI_1 v) (ih (v + 1) o (by omega) (by omega) h0 ?_)
        intro u' v' h1 h2 h3 h4
        by_cases ee : u' = u ∧ v' = v
        · rw [ee.1] at h3
          rw [ee.2] at h4
          exact absurd ⟨h3, h4⟩ hb
        · exact hI u' v' (by omega) h2 h3 h4
      · have hw := (ah_jn_lt (u := u) (v := v) (by omega) (by omega)).2 (Or.inl hu)
        have fin : ∀ o', (∀ i, bl o' i = true ↔ bl o i = true ∨ i = ah_hw (ad_jn u v)) → ∀ x8 : Int32, x8 = nI v + 1 → wX_catHeads_30 post J T H (nI u) Xdc Xml Xmn Xal Xpr Xnc Xps Xtp Xsr Xhi Xwd Xln Xgc Xpo Xkd Xmk Xnu Xfi Xla Xfo Xac Xhd Xtl Xmd Xec Xew Xh1 Xh2 n o' x8 := by
          intro o' ho'
          refine nm_r (nI_1 v) (ih (v + 1) o' (by omega) (by omega) (fun i hi => (ho' i).mpr (Or.inl (h0 i hi))) ?_)
          intro u' v' g1 g2 g3 g4
          by_cases ee : u' = u ∧ v' = v
          · exact (ho' _).mpr (Or.inr (by rw [ee.1, ee.2]))
          · exact (ho' _).mpr (Or.inl (hI u' v' (by omega) g2 g3 g4))
        refine an_join (fun r hr => ?_)
        rw [hr u v rfl rfl (by omega) (by omega)]
        refine br_c (fun h2 => nm_e (fin _ ?_)) (fun h2 => ⟨by decide, nm_e (fin _ ?_)⟩)
        · intro i
          have h3 : ad_jn u v ≤ 42 := (nI_leI (b := 42) (by omega) (by omega)).mp h2
          rw [bl_set (by omega)]
          unfold ah_hw
          rw [if_pos h3]
        · intro i
          have h3 : ¬ ad_jn u v ≤ 42 := fun z => h2 ((nI_leI (b := 42) (by omega) (by omega)).mpr z)
          have e3 : (nI (ad_jn u v) - 1) / 6 = nI ((ad_jn u v - 1) / 6) := by rw [show nI (ad_jn u v) - 1 = nI (ad_jn u v - 1) from pk_sub (b := 1) (by omega)]; exact pk_div (d := 6) (by omega) (by omega) (by omega)
          rw [e3, bl_set (by omega)]
          unfold ah_hw
          rw [if_neg h3]
theorem an_h20 {post : Int64 → Prop} {o0 : Int64}
    (k : ∀ o, (∀ i, bl o0 i = true → bl o i = true) → (∀ u v, u < 7 → v < 43 → bl T u = true → bl H v = true → bl o (ah_hw (ad_jn u v)) = true) → post o) :
    ∀ (n u : Nat) (o : Int64), u ≤ 7 → 7 - u < n → (∀ i, bl o0 i = true → bl o i = true) → (∀ u' v', u' < u → v' < 43 → bl T u' = true → bl H v' = true → bl o (ah_hw (ad_jn u' v')) = true) →
      wX_catHeads_20 post T H Xdc Xml Xmn Xal Xpr Xnc Xps Xtp Xsr Xhi Xwd Xln Xgc Xpo Xkd Xmk Xnu Xfi Xla Xfo Xac Xhd Xtl Xmd Xec Xew Xh1 Xh2 n o (nI u) := by
  intro n
  induction n with
  | zero => intro u o _ h; exact absurd h (by omega)
  | succ n ih =>
    intro u o hu hn h0 hI
    unfold wX_catHeads_20
    by_cases e : u = 7
    · subst e
      exact br_t (by decide) (k o h0 hI)
    · refine br_f (nI_ge (b := 7) (by omega) (by omega)) ⟨44, an_h30 (o0 := o0) (by omega) (fun o' h1 h2 => ih (u + 1) o' (by omega) (by omega) h1 h2) 44 0 o (by omega) (by omega) h0 ?_⟩
      intro u' v' g1 g2
      exact hI u' v' (by omega) g2
theorem an_heads {post : Int64 → Prop} (k : ∀ o, (∀ i, ¬ H = 0 → 7 ≤ i → bl T i = true → bl o i = true) → (∀ u v, u < 7 → v < 43 → bl T u = true → bl H v = true → bl o (ah_hw (ad_jn u v)) = true) → post o) : wpX_catHeads post (Xdc, Xml, Xmn, Xal, Xpr, Xnc, Xps, Xtp, Xsr, Xhi, Xwd, Xln, Xgc, Xpo, Xkd, Xmk, Xnu, Xfi, Xla, Xfo, Xac, Xhd, Xtl, Xmd, Xec, Xew, Xh1, Xh2) T H := by
  unfold wpX_catHeads
  refine br_c (fun h => ?_) (fun h => nm_e ?_)
  · exact ⟨8, an_h20 (o0 := 0) (fun o _ h2 => k o (fun i z => absurd h z) h2) 8 0 0 (by omega) (by omega) (fun _ z => z) (fun u' v' z => absurd z (by omega))⟩
  · exact ⟨8, an_h20 (o0 := T &&& (-128)) (fun o h1 h2 => k o (fun i _ h7 hb => h1 i (bl_hi hb h7)) h2) 8 0 _ (by omega) (by omega) (fun _ z => z) (fun u' v' z => absurd z (by omega))⟩
theorem an_t30 {post : Int64 → Prop} {J : Int64 → Int32 → Prop} {v : Nat} {o0 : Int64} (hv : v < 7)
    (k : ∀ o, (∀ i, bl o0 i = true → bl o i = true) → (∀ u' v', v' < v + 1 → u' < 43 → bl T u' = true → bl H v' = true → bl o (ah_tw (ad_jn u' v')) = true) → J o (nI (v + 1))) :
    ∀ (n u : Nat) (o : Int64), u ≤ 43 → 43 - u < n → (∀ i, bl o0 i = true → bl o i = true) → (∀ u' v', (v' < v ∨ (v' = v ∧ u' < u)) → u' < 43 → bl T u' = true → bl H v' = true → bl o (ah_tw (ad_jn u' v')) = true) →
      wX_catTails_30 post J T H (nI v) Xdc Xml Xmn Xal Xpr Xnc Xps Xtp Xsr Xhi Xwd Xln Xgc Xpo Xkd Xmk Xnu Xfi Xla Xfo Xac Xhd Xtl Xmd Xec Xew Xh1 Xh2 n o (nI u) := by
  intro n
  induction n with
  | zero => intro u o _ h; exact absurd h (by omega)
  | succ n ih =>
    intro u o hu hn h0 hI
    unfold wX_catTails_30
    by_cases e : u = 43
    · subst e
      refine br_t (by decide) (nm_r (nI_1 v) (k o h0 ?_))
      intro u' v' h1 h2
      exact hI u' v' (by omega) h2
    · refine br_f (nI_ge (b := 43) (by omega) (by omega)) (br_c (fun h => ?_) (fun h => ?_))
      · have hb := (bl_t2 _ _ (by omega) (by omega)).mp h
        refine nm_r (nI_1 u) (ih (u + 1) o (by omega) (by omega) h0 ?_)
        intro u' v' h1 h2 h3 h4
        by_cases ee : u' = u ∧ v' = v
        · rw [ee.1] at h3
          rw [ee.2] at h4
          exact absurd ⟨h3, h4⟩ hb
        · exact hI u' v' (by omega) h2 h3 h4
      · have hw := (ah_jn_lt (u := u) (v := v) (by omega) (by omega)).2 (Or.inr hv)
        have fin : ∀ o', (∀ i, bl o' i = true ↔ bl o i = true ∨ i = ah_tw (ad_jn u v)) → ∀ x8 : Int32, x8 = nI u + 1 → wX_catTails_30 post J T H (nI v) Xdc Xml Xmn Xal Xpr Xnc Xps Xtp Xsr Xhi Xwd Xln Xgc Xpo Xkd Xmk Xnu Xfi Xla Xfo Xac Xhd Xtl Xmd Xec Xew Xh1 Xh2 n o' x8 := by
          intro o' ho'
          refine nm_r (nI_1 u) (ih (u + 1) o' (by omega) (by omega) (fun i hi => (ho' i).mpr (Or.inl (h0 i hi))) ?_)
          intro u' v' g1 g2 g3 g4
          by_cases ee : u' = u ∧ v' = v
          · exact (ho' _).mpr (Or.inr (by rw [ee.1, ee.2]))
          · exact (ho' _).mpr (Or.inl (hI u' v' (by omega) g2 g3 g4))
        refine an_join (fun r hr => ?_)
        rw [hr u v rfl rfl (by omega) (by omega)]
        refine br_c (fun h2 => nm_e (fin _ ?_)) (fun h2 => ⟨by decide, nm_e (fin _ ?_)⟩)
        · intro i
          have h3 : ad_jn u v ≤ 42 := (nI_leI (b := 42) (by omega) (by omega)).mp h2
          rw [bl_set (by omega)]
          unfold ah_tw
          rw [if_pos h3]
        · intro i
          have h3 : ¬ ad_jn u v ≤ 42 := fun z => h2 ((nI_leI (b := 42) (by omega) (by omega)).mpr z)
          have e1 : nI (ad_jn u v) - 7 = nI (ad_jn u v - 7) := pk_sub (b := 7) (by omega)
          have e3 : ((nI (ad_jn u v) - 7) - (nI (ad_jn u v) - 7) / 36 * 36) + 7 = nI ((ad_jn u v - 7) % 36 + 7) := by
            rw [e1]
            have := pk_rem (a := ad_jn u v - 7) (d := 36) (by omega) (by omega) (by omega)
            exact (congrArg (fun z => z + 7) this).trans (nI_add _ 7)
          have hm : (ad_jn u v - 7) % 36 < 36 := Nat.mod_lt _ (by omega)
          rw [e3, bl_set (by omega)]
          unfold ah_tw
          rw [if_neg h3]
theorem an_t20 {post : Int64 → Prop} {o0 : Int64}
    (k : ∀ o, (∀ i, bl o0 i = true → bl o i = true) → (∀ u v, u < 43 → v < 7 → bl T u = true → bl H v = true → bl o (ah_tw (ad_jn u v)) = true) → post o) :
    ∀ (n v : Nat) (o : Int64), v ≤ 7 → 7 - v < n → (∀ i, bl o0 i = true → bl o i = true) → (∀ u' v', v' < v → u' < 43 → bl T u' = true → bl H v' = true → bl o (ah_tw (ad_jn u' v')) = true) →
      wX_catTails_20 post T H Xdc Xml Xmn Xal Xpr Xnc Xps Xtp Xsr Xhi Xwd Xln Xgc Xpo Xkd Xmk Xnu Xfi Xla Xfo Xac Xhd Xtl Xmd Xec Xew Xh1 Xh2 n o (nI v) := by
  intro n
  induction n with
  | zero => intro v o _ h; exact absurd h (by omega)
  | succ n ih =>
    intro v o hv hn h0 hI
    unfold wX_catTails_20
    by_cases e : v = 7
    · subst e
      exact br_t (by decide) (k o h0 (fun u v a b => hI u v b a))
    · refine br_f (nI_ge (b := 7) (by omega) (by omega)) ⟨44, an_t30 (o0 := o0) (by omega) (fun o' h1 h2 => ih (v + 1) o' (by omega) (by omega) h1 h2) 44 0 o (by omega) (by omega) h0 ?_⟩
      intro u' v' g1 g2
      exact hI u' v' (by omega) g2
theorem an_tails {post : Int64 → Prop} (k : ∀ o, (∀ i, ¬ T = 0 → 7 ≤ i → bl H i = true → bl o i = true) → (∀ u v, u < 43 → v < 7 → bl T u = true → bl H v = true → bl o (ah_tw (ad_jn u v)) = true) → post o) : wpX_catTails post (Xdc, Xml, Xmn, Xal, Xpr, Xnc, Xps, Xtp, Xsr, Xhi, Xwd, Xln, Xgc, Xpo, Xkd, Xmk, Xnu, Xfi, Xla, Xfo, Xac, Xhd, Xtl, Xmd, Xec, Xew, Xh1, Xh2) T H := by
  unfold wpX_catTails
  refine br_c (fun h => ?_) (fun h => nm_e ?_)
  · exact ⟨8, an_t20 (o0 := 0) (fun o _ h2 => k o (fun i z => absurd h z) h2) 8 0 0 (by omega) (by omega) (fun _ z => z) (fun u' v' z => absurd z (by omega))⟩
  · exact ⟨8, an_t20 (o0 := H &&& (-128)) (fun o h1 h2 => k o (fun i _ h7 hb => h1 i (bl_hi hb h7)) h2) 8 0 _ (by omega) (by omega) (fun _ z => z) (fun u' v' z => absurd z (by omega))⟩
end
end
section
/-! ===== X: the analysis, node by node ===== -/
def an_QQ (pr : Int32) (L : Nat → Nat) (A : Nat → Nat → Nat → Prop) (d s e : Nat) : Prop := bt pr d = true ∧ e ≤ L d ∧ A d s e
/-- what the analysis holds of slot x covers every span of Q -/
def an_S (pr : Int32) (tt : Nat → Nat → Nat) (Q : Nat → Nat → Nat → Prop) (hd tl : Nat → Int64) (md ec ew : Nat → Int32) (x : Nat) : Prop :=
  an_W ec ew x ∧ an_le pr (md x) ∧ ∀ d s e, Q d s e → bl (hd x) (ah_h (tt d) s e) = true ∧ bl (tl x) (ah_t (tt d) s e) = true ∧ bt (md x) d = true ∧
    (ec x = -1 ∨ (e - s ≤ 5 ∧ an_H ec ew x (nI (ad_cd (tt d) s (e - s)))))
def an_U (a : Nat) (hd tl : Nat → Int64) (md ec ew : Nat → Int32) (hd' tl' : Nat → Int64) (md' ec' ew' : Nat → Int32) : Prop :=
  ∀ y, ¬ y = a → y < 8 → hd' y = hd y ∧ tl' y = tl y ∧ md' y = md y ∧ ec' y = ec y ∧ ∀ i, i < 8 → ew' (y * 8 + i) = ew (y * 8 + i)
section
variable {pr : Int32} {tt : Nat → Nat → Nat} {Q Q' : Nat → Nat → Nat → Prop} {hd tl hd' tl' : Nat → Int64} {md ec ew md' ec' ew' : Nat → Int32} {x a : Nat} {c : Int32}
theorem an_Wx (e : ec' x = ec x) (f : ∀ i, i < 8 → ew' (x * 8 + i) = ew (x * 8 + i)) (h : an_W ec ew x) : an_W ec' ew' x := by
  rcases h with h | h
  · exact Or.inl (e.trans h)
  · obtain ⟨n, h1, h2, h3⟩ := h
    refine Or.inr ⟨n, h1, e.trans h2, fun i hi => ?_⟩
    rw [f i (by omega)]; exact h3 i hi
theorem an_Hx (e : ec' x = ec x) (f : ∀ i, i < 8 → ew' (x * 8 + i) = ew (x * 8 + i)) (h : an_H ec ew x c) : an_H ec' ew' x c := by
  rcases h with h | h
  · exact Or.inl (e.trans h)
  · obtain ⟨n, i, h0, h1, h2, h3⟩ := h
    refine Or.inr ⟨n, i, h0, h1, e.trans h2, ?_⟩
    rw [f i (by omega)]; exact h3
theorem an_Sc (h : an_S pr tt Q hd tl md ec ew x) (hx : x < 8) (hU : an_U a hd tl md ec ew hd' tl' md' ec' ew') (hxa : ¬ x = a) : an_S pr tt Q hd' tl' md' ec' ew' x := by
  obtain ⟨u1, u2, u3, u4, u5⟩ := hU x hxa hx
  obtain ⟨w, l, f⟩ := h
  refine ⟨an_Wx u4 u5 w, by rw [u3]; exact l, fun d s e q => ?_⟩
  obtain ⟨f1, f2, f3, f4⟩ := f d s e q
  rw [u1, u2, u3]
  refine ⟨f1, f2, f3, ?_⟩
  rcases f4 with g | g
  · exact Or.inl (u4.trans g)
  · exact Or.inr ⟨g.1, an_Hx u4 u5 g.2⟩
theorem an_Sq (h : an_S pr tt Q hd tl md ec ew x) (hq : ∀ d s e, Q' d s e → Q d s e) : an_S pr tt Q' hd tl md ec ew x :=
  ⟨h.1, h.2.1, fun d s e q => h.2.2 d s e (hq d s e q)⟩
theorem an_m1 (hW : an_W ec ew x) (h : ∀ c, an_H ec ew x c) : ec x = -1 := by
  rcases h 9331 with g | g
  · exact g
  · obtain ⟨n, i, h0, h1, h2, h3⟩ := g
    rcases hW with w | w
    · exact w
    · obtain ⟨n', w0, w1, w2⟩ := w
      rw [h2, nI_eq (by omega) (by omega)] at w1
      have := w2 i (by omega)
      rw [h3] at this
      exact absurd this (by decide)
theorem an_neg {n : Nat} (h : ec x = -1) (e : ec x = nI n) (hn : n ≤ 8) : False := by
  have h0 : ¬ nI n < 0 := nI_pos (by omega)
  rw [← e, h] at h0
  exact h0 (by decide)
theorem an_Wn (h : an_W ec ew x) : ec x = -1 ∨ ∃ n, n ≤ 8 ∧ ec x = nI n := by
  rcases h with h | h
  · exact Or.inl h
  · obtain ⟨n, h1, h2, _⟩ := h
    exact Or.inr ⟨n, h1, h2⟩
/-- a word of the exact set has at most five letters -/
theorem an_5 {t : Nat → Nat} (ht : ∀ p, t p < 6) {s n : Nat} (hW : an_W ec ew x) (hn : n ≤ 10) (h : an_H ec ew x (nI (ad_cd t s n))) : ec x = -1 ∨ (n ≤ 5 ∧ an_H ec ew x (nI (ad_cd t s n))) := by
  rcases h with h | h
  · exact Or.inl h
  · refine Or.inr ⟨?_, Or.inr h⟩
    obtain ⟨m, i, h0, h1, h2, h3⟩ := h
    rcases hW with w | w
    · exact (an_neg w h2 h0).elim
    · obtain ⟨n', w0, w1, w2⟩ := w
      rw [h2, nI_eq (by omega) (by omega)] at w1
      have hb := w2 i (by omega)
      rw [h3] at hb
      have hb' : ad_cd t s n ≤ 9330 := (nI_leI (b := 9330) (ad_le10 ht s hn) (by omega)).mp hb
      rcases Nat.lt_or_ge n 6 with z | z
      · omega
      · have := ad_ge6 (t := t) s z
        omega
end
section
variable {Xdc Xml Xmn Xal Xpr Xnc Xps Xtp Xsr Xhi : Int32} {Xwd Xln Xgc Xpo Xkd Xmk Xnu Xfi Xla Xfo Xac Xmd Xec Xew Xh1 Xh2 : Nat → Int32} {Xhd Xtl : Nat → Int64}
variable {L : Nat → Nat} {tt : Nat → Nat → Nat} {x : Nat}
theorem al_39 {post : SX → Prop} {st : Int64} {EC EW : Nat → Int32} (hE : an_E Xpr Xpo L tt) (hx : x < 8)
    (k : ∀ ec ew r, an_W ec ew x → an_O x EC EW ec ew → an_le Xpr r → (∀ w, w < 7 → bl st w = true → an_H ec ew x (nI w) ∧ an_D Xpr L tt r (nI w)) → post (Xdc, Xml, Xmn, Xal, Xpr, Xnc, Xps, Xtp, Xsr, Xhi, Xwd, Xln, Xgc, Xpo, Xkd, Xmk, Xnu, Xfi, Xla, Xfo, Xac, Xhd, Xtl, upd Xmd x r, ec, ew, Xh1, Xh2)) :
    ∀ (n w : Nat) (ec ew : Nat → Int32), w ≤ 7 → 7 - w < n → an_W ec ew x → an_O x EC EW ec ew → (∃ c, c ≤ w ∧ ec x = nI c) → (∀ w', w' < w → bl st w' = true → an_H ec ew x (nI w')) →
      wX_analyseLeaf_39 post (nI x) st n (nI w) Xdc Xml Xmn Xal Xpr Xnc Xps Xtp Xsr Xhi Xwd Xln Xgc Xpo Xkd Xmk Xnu Xfi Xla Xfo Xac Xhd Xtl Xmd ec ew Xh1 Xh2 := by
  intro n
  have v8 : vp_in (nI x) 8 := vp_in_nI (by omega) (by omega)
  have ic : (nI x).toNatClampNeg = x := nI_clamp (by omega)
  induction n with
  | zero => intro w ec ew _ h; exact absurd h (by omega)
  | succ n ih =>
    intro w ec ew hw hn hW hO hc hI
    obtain ⟨c, hc1, hc2⟩ := hc
    unfold wX_analyseLeaf_39
    by_cases e : w = 7
    · subst e
      refine br_t (by decide) (an_xd (Xec := ec) (Xew := ew) hE (by omega) (an_Wn hW) (fun r h1 h2 => ⟨v8, nm_r (e' := upd Xmd x r) (by rw [ic]) (k ec ew r hW hO h1 ?_)⟩))
      intro w hw hb
      have hh := hI w hw hb
      refine ⟨hh, ?_⟩
      rcases hh with g | g
      · exact (an_neg g hc2 (by omega)).elim
      · obtain ⟨m, i, g0, g1, g2, g3⟩ := g
        have := h2 m i g0 g2 g1
        rw [g3] at this
        exact this
    · refine br_f (nI_ge (b := 7) (by omega) (by omega)) (br_c (fun h => nm_r (nI_1 w) (ih (w + 1) ec ew (by omega) (by omega) hW hO ⟨c, by omega, hc2⟩ ?_)) (fun h => an_add (Xec := ec) (Xew := ew) (by omega) hW (fun ec' ew' h1 h2 h3 h4 h5 => nm_r (nI_1 w) (ih (w + 1) ec' ew' (by omega) (by omega) h1 (an_Otr hO h2) ?_ ?_))))
      · have hb := (bl_t0 _ (by omega)).mp h
        intro w' h1 h2
        have : ¬ w' = w := fun ee => by rw [ee, hb] at h2; exact absurd h2 (by decide)
        exact hI w' (by omega) h2
      · obtain ⟨n', g1, g2⟩ := h5 c (by omega) hc2 (nI_le (b := 9330) (by omega) (by omega))
        exact ⟨n', by omega, g2⟩
      · intro w' g1 g2
        by_cases ee : w' = w
        · subst ee; exact h4
        · exact h3 _ (hI w' (by omega) g2)
theorem al_leaf {post : SX → Prop} {kd mk : Int32} (hE : an_E Xpr Xpo L tt) (hx : x < 8)
    (k : ∀ hd tl md ec ew, an_U x Xhd Xtl Xmd Xec Xew hd tl md ec ew → an_S Xpr tt (an_QQ Xpr L (fun d => aa_leaf (tt d) kd mk)) hd tl md ec ew x → post (Xdc, Xml, Xmn, Xal, Xpr, Xnc, Xps, Xtp, Xsr, Xhi, Xwd, Xln, Xgc, Xpo, Xkd, Xmk, Xnu, Xfi, Xla, Xfo, Xac, hd, tl, md, ec, ew, Xh1, Xh2)) : wpX_analyseLeaf post (Xdc, Xml, Xmn, Xal, Xpr, Xnc, Xps, Xtp, Xsr, Xhi, Xwd, Xln, Xgc, Xpo, Xkd, Xmk, Xnu, Xfi, Xla, Xfo, Xac, Xhd, Xtl, Xmd, Xec, Xew, Xh1, Xh2) (nI x) kd mk := by
  have v8 : vp_in (nI x) 8 := vp_in_nI (by omega) (by omega)
  have v9 : vp_in (nI x) 9 := vp_in_nI (by omega) (by omega)
  have ic : (nI x).toNatClampNeg = x := nI_clamp (by omega)
  have hT := hE.1
  have main : ∀ st : Int64, (∀ d s e, aa_leaf (tt d) kd mk s e → s ≤ e ∧ e - s ≤ 1 ∧ ad_cd (tt d) s (e - s) < 7 ∧ bl st (ad_cd (tt d) s (e - s)) = true) → wX_analyseLeaf_13 post (nI x) st Xdc Xml Xmn Xal Xpr Xnc Xps Xtp Xsr Xhi Xwd Xln Xgc Xpo Xkd Xmk Xnu Xfi Xla Xfo Xac Xhd Xtl Xmd Xec Xew Xh1 Xh2 := by
    intro st hst
    unfold wX_analyseLeaf_13
    rw [ic]
    refine ⟨v8, nm_e ⟨v8, nm_e ⟨v9, nm_e ⟨8, ?_⟩⟩⟩⟩
    refine al_39 (Xhd := vp_updL Xhd x st) (Xtl := vp_updL Xtl x st) (EC := Xec) (EW := Xew) hE hx ?_ 8 0 (upd Xec x 0) Xew (by omega) (by omega) (Or.inr ⟨0, by omega, pk_us, fun i hi => absurd hi (by omega)⟩) ⟨fun y hy => pk_un hy, fun _ _ => rfl⟩ ⟨0, Nat.le_refl _, pk_us⟩ (fun w' h => absurd h (by omega))
    intro ec ew r hW hO hle hw
    refine k _ _ _ ec ew ?_ ⟨hW, ?_, ?_⟩
    · intro y hy hy8
      exact ⟨pk_uLn hy, pk_uLn hy, pk_un hy, hO.1 y hy, fun i hi => hO.2 _ (by omega)⟩
    · rw [pk_us]; exact hle
    · intro d s e q
      obtain ⟨q1, q2, q3⟩ := q
      obtain ⟨g0, g1, g2, g3⟩ := hst d s e q3
      obtain ⟨w1, w2⟩ := hw _ g2 g3
      rw [pk_uLs, pk_uLs, pk_us, ah_h_s (by omega), ah_t_s (by omega)]
      exact ⟨g3, g3, w2 d s (e - s) q1 (by omega) (by omega) rfl, Or.inr ⟨by omega, w1⟩⟩
  unfold wpX_analyseLeaf
  refine nm_e (br_c (fun h => main 1 ?_) (fun h => main _ ?_))
  · intro d s e q
    rcases q with q | q
    · rw [q.2, Nat.sub_self]
      exact ⟨Nat.le_refl _, by omega, by rw [ad_b0]; omega, by rw [ad_b0, bl_1 0 (by omega)]; rfl⟩
    · exact absurd h q.1
  · intro d s e q
    rcases q with q | q
    · exact absurd q.1 h
    · have ht := hT d s
      have ec : ad_cd (tt d) s (e - s) = tt d s + 1 := by
        rw [q.2.1, show s + 1 - s = 0 + 1 from by omega]
        show 0 * 6 + tt d s + 1 = tt d s + 1
        omega
      rw [ec]
      exact ⟨by omega, by omega, by omega, by rw [bl_w mk (by omega)]; exact q.2.2⟩
/-! exact sets of an alternative -/
theorem al_18 {post : SX → Prop} {y n0 : Nat} {EC EW : Nat → Int32} (hx : x < 8) (hy : y < 8) (hxy : ¬ y = x) (hn0 : n0 ≤ 8) (ey : EC y = nI n0)
    (k : ∀ ec ew, an_W ec ew x → an_O x EC EW ec ew → (∀ c, an_H EC EW x c → an_H ec ew x c) → (∀ j, j < n0 → an_H ec ew x (EW (y * 8 + j))) → post (Xdc, Xml, Xmn, Xal, Xpr, Xnc, Xps, Xtp, Xsr, Xhi, Xwd, Xln, Xgc, Xpo, Xkd, Xmk, Xnu, Xfi, Xla, Xfo, Xac, Xhd, Xtl, Xmd, ec, ew, Xh1, Xh2)) :
    ∀ (n i : Nat) (ec ew : Nat → Int32), i ≤ n0 → n0 - i < n → an_W ec ew x → an_O x EC EW ec ew → (∀ c, an_H EC EW x c → an_H ec ew x c) → (∀ j, j < i → an_H ec ew x (EW (y * 8 + j))) →
      wX_exactAlt_18 post (nI x) (nI y) n (nI i) Xdc Xml Xmn Xal Xpr Xnc Xps Xtp Xsr Xhi Xwd Xln Xgc Xpo Xkd Xmk Xnu Xfi Xla Xfo Xac Xhd Xtl Xmd ec ew Xh1 Xh2 := by
  intro n
  have v9 : vp_in (nI y) 9 := vp_in_nI (by omega) (by omega)
  have ic : (nI y).toNatClampNeg = y := nI_clamp (by omega)
  induction n with
  | zero => intro i ec ew _ h; exact absurd h (by omega)
  | succ n ih =>
    intro i ec ew hi hn hW hO hM hI
    unfold wX_exactAlt_18
    rw [ic, hO.1 y hxy, ey]
    refine ⟨v9, ?_⟩
    by_cases e : i = n0
    · subst e
      exact br_t (nI_le (Nat.le_refl _) (by omega)) (k ec ew hW hO hM hI)
    · refine br_f (nI_ge (by omega) (by omega)) ?_
      rw [ax_m8, nI_add, nI_clamp (by omega), hO.2 (y * 8 + i) (by omega)]
      refine ⟨vp_in_nI (by omega) (by omega), an_add (Xec := ec) (Xew := ew) (by omega) hW (fun ec' ew' h1 h2 h3 h4 h5 => nm_r (nI_1 i) (ih (i + 1) ec' ew' (by omega) (by omega) h1 (an_Otr hO h2) (fun c hc => h3 c (hM c hc)) ?_))⟩
      intro j hj
      by_cases ej : j = i
      · subst ej; exact h4
      · exact h3 _ (hI j (by omega))
theorem al_alt {post : SX → Prop} {y : Nat} (hx : x < 8) (hy : y < 8) (hxy : ¬ y = x) (hWx : an_W Xec Xew x) (hWy : an_W Xec Xew y)
    (k : ∀ ec ew, an_W ec ew x → an_O x Xec Xew ec ew → (∀ c, an_H Xec Xew x c → an_H ec ew x c) → (∀ c, an_H Xec Xew y c → an_H ec ew x c) → post (Xdc, Xml, Xmn, Xal, Xpr, Xnc, Xps, Xtp, Xsr, Xhi, Xwd, Xln, Xgc, Xpo, Xkd, Xmk, Xnu, Xfi, Xla, Xfo, Xac, Xhd, Xtl, Xmd, ec, ew, Xh1, Xh2)) : wpX_exactAlt post (Xdc, Xml, Xmn, Xal, Xpr, Xnc, Xps, Xtp, Xsr, Xhi, Xwd, Xln, Xgc, Xpo, Xkd, Xmk, Xnu, Xfi, Xla, Xfo, Xac, Xhd, Xtl, Xmd, Xec, Xew, Xh1, Xh2) (nI x) (nI y) := by
  have vx : vp_in (nI x) 9 := vp_in_nI (by omega) (by omega)
  have vy : vp_in (nI y) 9 := vp_in_nI (by omega) (by omega)
  have iy : (nI y).toNatClampNeg = y := nI_clamp (by omega)
  have ix : (nI x).toNatClampNeg = x := nI_clamp (by omega)
  unfold wpX_exactAlt
  rw [ix, iy]
  refine ⟨vy, ?_⟩
  rcases hWy with h | h
  · rw [h]
    refine br_f (by decide) ⟨vx, nm_e ⟨1, ?_⟩⟩
    unfold wX_exactAlt_18
    rw [iy, pk_un hxy, h]
    exact ⟨vy, br_t (by decide) (k (upd Xec x (-1)) Xew (Or.inl pk_us) ⟨fun z hz => pk_un hz, fun _ _ => rfl⟩ (fun c _ => Or.inl pk_us) (fun c _ => Or.inl pk_us))⟩
  · obtain ⟨n0, h1, h2, h3⟩ := h
    rw [h2]
    refine br_t (nI_pos' (by omega)) ⟨n0 + 1, al_18 (EC := Xec) (EW := Xew) hx hy hxy h1 h2 ?_ (n0 + 1) 0 Xec Xew (by omega) (by omega) hWx an_Oid (fun c hc => hc) (fun j hj => absurd hj (by omega))⟩
    intro ec ew g1 g2 g3 g4
    refine k ec ew g1 g2 g3 (fun c hc => ?_)
    rcases hc with hc | hc
    · exact (an_neg hc h2 h1).elim
    · obtain ⟨m, i, e0, e1, e2, e3⟩ := hc
      rw [h2, nI_eq (by omega) (by omega)] at e2
      rw [← e3]
      exact g4 i (by omega)
end
/-! exact sets of a concatenation -/
def al_CL (EW : Nat → Int32) (x y i j : Nat) (ec ew : Nat → Int32) : Prop := ∀ a b, EW (x * 8 + i) = nI a → EW (y * 8 + j) = nI b → a < 9331 → b < 9331 → an_H ec ew 8 (nI (ad_jn a b))
section
variable {Xdc Xml Xmn Xal Xpr Xnc Xps Xtp Xsr Xhi : Int32} {Xwd Xln Xgc Xpo Xkd Xmk Xnu Xfi Xla Xfo Xac Xmd Xec Xew Xh1 Xh2 : Nat → Int32} {Xhd Xtl : Nat → Int64}
variable {L : Nat → Nat} {tt : Nat → Nat → Nat} {x y : Nat}
theorem al_121 {post : SX → Prop} {n0 : Nat} {EW : Nat → Int32} (hx : x < 8) (hn0 : n0 ≤ 8) (e8 : Xec 8 = nI n0)
    (k : ∀ ew, (∀ j, j < n0 → ew (x * 8 + j) = EW (64 + j)) → (∀ j, (j < x * 8 ∨ x * 8 + 8 ≤ j) → ew j = EW j) → post (Xdc, Xml, Xmn, Xal, Xpr, Xnc, Xps, Xtp, Xsr, Xhi, Xwd, Xln, Xgc, Xpo, Xkd, Xmk, Xnu, Xfi, Xla, Xfo, Xac, Xhd, Xtl, Xmd, Xec, ew, Xh1, Xh2)) :
    ∀ (n i : Nat) (ew : Nat → Int32), i ≤ n0 → n0 - i < n → (∀ j, j < i → ew (x * 8 + j) = EW (64 + j)) → (∀ j, (j < x * 8 ∨ x * 8 + 8 ≤ j) → ew j = EW j) →
      wX_exactCat_121 post (nI x) Xdc Xml Xmn Xal Xpr Xnc Xps Xtp Xsr Xhi n (nI i) Xwd Xln Xgc Xpo Xkd Xmk Xnu Xfi Xla Xfo Xac Xhd Xtl Xmd Xec ew Xh1 Xh2 := by
  intro n
  induction n with
  | zero => intro i ew _ h; exact absurd h (by omega)
  | succ n ih =>
    intro i ew hi hn h1 h2
    unfold wX_exactCat_121
    rw [e8]
    by_cases e : i = n0
    · subst e
      exact br_t (nI_le (Nat.le_refl _) (by omega)) (k ew h1 h2)
    · refine br_f (nI_ge (by omega) (by omega)) ?_
      rw [ax_m8, nI_add, ax_64, nI_clamp (by omega), nI_clamp (by omega)]
      refine ⟨vp_in_nI (by omega) (by omega), vp_in_nI (by omega) (by omega), nm_e (nm_r (nI_1 i) (ih (i + 1) _ (by omega) (by omega) ?_ ?_))⟩
      · intro j hj
        by_cases ej : j = i
        · rw [ej, pk_us]; exact h2 (64 + i) (by omega)
        · rw [pk_un (by omega)]; exact h1 j (by omega)
      · intro j hj
        rw [pk_un (by omega)]; exact h2 j hj
theorem al_fin {post : SX → Prop} {ec ew : Nat → Int32} (hx : x < 8) (hW : an_W ec ew 8)
    (k : ∀ ec' ew', an_W ec' ew' x → (∀ z, ¬ z = x → ec' z = ec z) → (∀ j, (j < x * 8 ∨ x * 8 + 8 ≤ j) → ew' j = ew j) → (∀ c, an_H ec ew 8 c → an_H ec' ew' x c) → post (Xdc, Xml, Xmn, Xal, Xpr, Xnc, Xps, Xtp, Xsr, Xhi, Xwd, Xln, Xgc, Xpo, Xkd, Xmk, Xnu, Xfi, Xla, Xfo, Xac, Xhd, Xtl, Xmd, ec', ew', Xh1, Xh2)) :
    ∃ n121 : Nat, wX_exactCat_121 post (nI x) Xdc Xml Xmn Xal Xpr Xnc Xps Xtp Xsr Xhi n121 0 Xwd Xln Xgc Xpo Xkd Xmk Xnu Xfi Xla Xfo Xac Xhd Xtl Xmd (upd ec x (ec 8)) ew Xh1 Xh2 := by
  have e8 : upd ec x (ec 8) 8 = ec 8 := pk_un (by omega)
  rcases hW with h | h
  · refine ⟨1, ?_⟩
    unfold wX_exactCat_121
    rw [e8, h]
    refine br_t (by decide) ?_
    have := k (upd ec x (ec 8)) ew (Or.inl (pk_us.trans h)) (fun z hz => pk_un hz) (fun _ _ => rfl) (fun c _ => Or.inl (pk_us.trans h))
    rw [h] at this
    exact this
  · obtain ⟨n0, h1, h2, h3⟩ := h
    refine ⟨n0 + 1, al_121 (Xec := upd ec x (ec 8)) (EW := ew) hx h1 (e8.trans h2) ?_ (n0 + 1) 0 ew (by omega) (by omega) (fun j hj => absurd hj (by omega)) (fun _ _ => rfl)⟩
    intro ew' g1 g2
    refine k _ ew' (Or.inr ⟨n0, h1, pk_us.trans h2, ?_⟩) (fun z hz => pk_un hz) g2 ?_
    · intro i hi
      rw [g1 i hi]
      exact h3 i hi
    · intro c hc
      rcases hc with hc | hc
      · exact (an_neg hc h2 h1).elim
      · obtain ⟨m, i, e0, e1, e2, e3⟩ := hc
        rw [h2, nI_eq (by omega) (by omega)] at e2
        refine Or.inr ⟨n0, i, h1, by omega, pk_us.trans h2, ?_⟩
        rw [g1 i (by omega)]
        exact e3
theorem al_48 {post : SX → Prop} {J : Int32 → Int32 → Int32 → Int32 → Int32 → Int32 → Int32 → Int32 → Int32 → Int32 → Int32 → (Nat → Int32) → (Nat → Int32) → (Nat → Int32) → (Nat → Int32) → (Nat → Int32) → (Nat → Int32) → (Nat → Int32) → (Nat → Int32) → (Nat → Int32) → (Nat → Int32) → (Nat → Int32) → (Nat → Int64) → (Nat → Int64) → (Nat → Int32) → (Nat → Int32) → (Nat → Int32) → (Nat → Int32) → (Nat → Int32) → Prop}
    {i ny : Nat} {c3 : Int32} {EC EW : Nat → Int32} (hx : x < 8) (hy : y < 8) (hi8 : i < 8) (hny : ny ≤ 8)
    (kJ : ∀ ec ew, an_W ec ew 8 → an_O 8 EC EW ec ew → (∀ i' j', i' < i + 1 → j' < ny → al_CL EW x y i' j' ec ew) → J (nI (i + 1)) Xdc Xml Xmn Xal Xpr Xnc Xps Xtp Xsr Xhi Xwd Xln Xgc Xpo Xkd Xmk Xnu Xfi Xla Xfo Xac Xhd Xtl Xmd ec ew Xh1 Xh2) :
    ∀ (n j : Nat) (ec ew : Nat → Int32), j ≤ ny → ny - j < n → an_W ec ew 8 → an_O 8 EC EW ec ew → (∀ i' j', (i' < i ∨ (i' = i ∧ j' < j)) → j' < ny → al_CL EW x y i' j' ec ew) →
      wX_exactCat_48 post J (nI x) (nI y) c3 (nI ny) (nI i) n (nI j) Xdc Xml Xmn Xal Xpr Xnc Xps Xtp Xsr Xhi Xwd Xln Xgc Xpo Xkd Xmk Xnu Xfi Xla Xfo Xac Xhd Xtl Xmd ec ew Xh1 Xh2 := by
  intro n
  induction n with
  | zero => intro j ec ew _ h; exact absurd h (by omega)
  | succ n ih =>
    intro j ec ew hj hn hW hO hI
    unfold wX_exactCat_48
    by_cases e : j = ny
    · subst e
      refine br_t (nI_le (Nat.le_refl _) (by omega)) (nm_r (nI_1 i) (kJ ec ew hW hO ?_))
      intro i' j' h1 h2
      exact hI i' j' (by omega) h2
    · refine br_f (nI_ge (by omega) (by omega)) ?_
      rw [ax_m8, ax_m8, nI_add, nI_add, nI_clamp (by omega), nI_clamp (by omega), hO.2 (x * 8 + i) (by omega), hO.2 (y * 8 + j) (by omega)]
      refine ⟨vp_in_nI (by omega) (by omega), vp_in_nI (by omega) (by omega), an_join (fun r hr => an_add (x := 8) (Xec := ec) (Xew := ew) (by omega) hW (fun ec' ew' h1 h2 h3 h4 h5 => nm_r (nI_1 j) (ih (j + 1) ec' ew' (by omega) (by omega) h1 (an_Otr hO h2) ?_)))⟩
      intro i' j' g1 g2 a b ea eb ha hb
      by_cases ee : i' = i ∧ j' = j
      · obtain ⟨e1, e2⟩ := ee
        subst e1; subst e2
        rw [hr a b ea eb ha hb] at h4
        exact h4
      · exact h3 _ (hI i' j' (by omega) g2 a b ea eb ha hb)
theorem al_39c {post : SX → Prop} {nx : Nat} {EC EW : Nat → Int32} (hx : x < 8) (hy : y < 8) (hnx : nx ≤ 8) (hWy : EC y = -1 ∨ ∃ n, n ≤ 8 ∧ EC y = nI n)
    (k : ∀ ec ew, an_W ec ew 8 → an_O 8 EC EW ec ew → (EC y = -1 → ec 8 = -1) → (∀ i' j' ny, i' < nx → ny ≤ 8 → EC y = nI ny → j' < ny → al_CL EW x y i' j' ec ew) → ∃ n121 : Nat, wX_exactCat_121 post (nI x) Xdc Xml Xmn Xal Xpr Xnc Xps Xtp Xsr Xhi n121 0 Xwd Xln Xgc Xpo Xkd Xmk Xnu Xfi Xla Xfo Xac Xhd Xtl Xmd (upd ec x (ec 8)) ew Xh1 Xh2) :
    ∀ (n i : Nat) (ec ew : Nat → Int32), i ≤ nx → nx - i < n → an_W ec ew 8 → an_O 8 EC EW ec ew → (EC y = -1 → ec 8 = -1) → (∀ i' j' ny, i' < i → ny ≤ 8 → EC y = nI ny → j' < ny → al_CL EW x y i' j' ec ew) →
      wX_exactCat_39 post (nI x) (nI y) (nI nx) (EC y) n (nI i) Xdc Xml Xmn Xal Xpr Xnc Xps Xtp Xsr Xhi Xwd Xln Xgc Xpo Xkd Xmk Xnu Xfi Xla Xfo Xac Xhd Xtl Xmd ec ew Xh1 Xh2 := by
  intro n
  have vx : vp_in (nI x) 9 := vp_in_nI (by omega) (by omega)
  have ix : (nI x).toNatClampNeg = x := nI_clamp (by omega)
  induction n with
  | zero => intro i ec ew _ h; exact absurd h (by omega)
  | succ n ih =>
    intro i ec ew hi hn hW hO hM hI
    unfold wX_exactCat_39
    by_cases e : i = nx
    · subst e
      rw [ix]
      exact br_t (nI_le (Nat.le_refl _) (by omega)) ⟨vx, nm_e (k ec ew hW hO hM hI)⟩
    · refine br_f (nI_ge (by omega) (by omega)) ?_
      rcases hWy with h | h
      · refine ⟨1, ?_⟩
        unfold wX_exactCat_48
        refine br_t (by rw [h]; decide) (nm_r (nI_1 i) (ih (i + 1) ec ew (by omega) (by omega) hW hO hM ?_))
        intro i' j' ny _ h2 h3
        exact (an_neg h h3 h2).elim
      · obtain ⟨ny, h1, h2⟩ := h
        have hno : ¬ EC y = -1 := fun z => an_neg z h2 h1
        refine ⟨ny + 1, ?_⟩
        have := al_48 (post := post) (c3 := nI nx) (J := wX_exactCat_39 post (nI x) (nI y) (nI nx) (EC y) n) (EC := EC) (EW := EW) (i := i) hx hy (by omega) h1 (fun ec' ew' g1 g2 g3 => ih (i + 1) ec' ew' (by omega) (by omega) g1 g2 (fun z => absurd z hno) (fun i' j' ny' q1 q2 q3 q4 => g3 i' j' q1 (by rw [h2, nI_eq (by omega) (by omega)] at q3; omega))) (ny + 1) 0 ec ew (by omega) (by omega) hW hO (fun i' j' q1 q2 => hI i' j' ny (by omega) h1 h2 q2)
        rw [← h2] at this
        exact this
theorem al_cat {post : SX → Prop} (hx : x < 8) (hy : y < 8) (hxy : ¬ y = x) (hWx : an_W Xec Xew x) (hWy : an_W Xec Xew y)
    (k : ∀ ec ew, an_W ec ew x → (∀ z, ¬ z = x → z < 8 → ec z = Xec z) → (∀ z, ¬ z = x → z < 8 → ∀ i, i < 8 → ew (z * 8 + i) = Xew (z * 8 + i)) →
      (Xec x = -1 ∨ Xec y = -1 → ec x = -1) → (∀ a b, a < 9331 → b < 9331 → an_H Xec Xew x (nI a) → an_H Xec Xew y (nI b) → an_H ec ew x (nI (ad_jn a b))) → post (Xdc, Xml, Xmn, Xal, Xpr, Xnc, Xps, Xtp, Xsr, Xhi, Xwd, Xln, Xgc, Xpo, Xkd, Xmk, Xnu, Xfi, Xla, Xfo, Xac, Xhd, Xtl, Xmd, ec, ew, Xh1, Xh2)) : wpX_exactCat post (Xdc, Xml, Xmn, Xal, Xpr, Xnc, Xps, Xtp, Xsr, Xhi, Xwd, Xln, Xgc, Xpo, Xkd, Xmk, Xnu, Xfi, Xla, Xfo, Xac, Xhd, Xtl, Xmd, Xec, Xew, Xh1, Xh2) (nI x) (nI y) := by
  have vx : vp_in (nI x) 9 := vp_in_nI (by omega) (by omega)
  have vy : vp_in (nI y) 9 := vp_in_nI (by omega) (by omega)
  have iy : (nI y).toNatClampNeg = y := nI_clamp (by omega)
  have ix : (nI x).toNatClampNeg = x := nI_clamp (by omega)
  have fin : ∀ ec ew, an_W ec ew 8 → an_O 8 Xec Xew ec ew → (Xec x = -1 ∨ Xec y = -1 → ec 8 = -1) → (∀ i j nx ny, nx ≤ 8 → ny ≤ 8 → Xec x = nI nx → Xec y = nI ny → i < nx → j < ny → al_CL Xew x y i j ec ew) → ∃ n121 : Nat, wX_exactCat_121 post (nI x) Xdc Xml Xmn Xal Xpr Xnc Xps Xtp Xsr Xhi n121 0 Xwd Xln Xgc Xpo Xkd Xmk Xnu Xfi Xla Xfo Xac Xhd Xtl Xmd (upd ec x (ec 8)) ew Xh1 Xh2 := by
    intro ec ew hW hO hM hC
    refine al_fin hx hW (fun ec' ew' g1 g2 g3 g4 => k ec' ew' g1 ?_ ?_ ?_ ?_)
    · intro z hz hz8
      rw [g2 z hz, hO.1 z (by omega)]
    · intro z hz hz8 i hi
      rw [g3 (z * 8 + i) (by omega), hO.2 (z * 8 + i) (by omega)]
    · intro h
      exact an_m1 g1 (fun c => g4 c (Or.inl (hM h)))
    · intro a b ha hb h1 h2
      apply g4
      rcases h1 with h1 | h1
      · exact Or.inl (hM (Or.inl h1))
      · rcases h2 with h2 | h2
        · exact Or.inl (hM (Or.inr h2))
        · obtain ⟨nx, i, p0, p1, p2, p3⟩ := h1
          obtain ⟨ny, j, q0, q1, q2, q3⟩ := h2
          exact hC i j nx ny p0 q0 p2 q2 p1 q1 a b p3 q3 ha hb
  have W8 : an_W (upd Xec 8 (-1)) Xew 8 := Or.inl pk_us
  have O8 : ∀ v, an_O 8 Xec Xew (upd Xec 8 v) Xew := fun v => ⟨fun z hz => pk_un hz, fun _ _ => rfl⟩
  unfold wpX_exactCat
  rw [ix, iy]
  refine ⟨vx, nm_e ⟨vy, nm_e ?_⟩⟩
  rcases hWx with h | h
  · refine br_t (by rw [h]; decide) (nm_e ⟨1, ?_⟩)
    unfold wX_exactCat_39
    rw [ix]
    refine br_t (by rw [h]; decide) ⟨vx, nm_e (fin _ _ W8 (O8 _) (fun _ => pk_us) ?_)⟩
    intro i j nx ny h1 _ h3
    exact (an_neg h h3 h1).elim
  · obtain ⟨nx, h1, h2, h3⟩ := h
    have hnx : ¬ Xec x = -1 := fun z => an_neg z h2 h1
    have go : ∀ ec, an_W ec Xew 8 → an_O 8 Xec Xew ec Xew → (Xec y = -1 → ec 8 = -1) → ∃ n39 : Nat, wX_exactCat_39 post (nI x) (nI y) (Xec x) (Xec y) n39 0 Xdc Xml Xmn Xal Xpr Xnc Xps Xtp Xsr Xhi Xwd Xln Xgc Xpo Xkd Xmk Xnu Xfi Xla Xfo Xac Xhd Xtl Xmd ec Xew Xh1 Xh2 := by
      intro ec hW hO hM
      rw [h2]
      refine ⟨nx + 1, al_39c (EC := Xec) (EW := Xew) hx hy h1 (an_Wn hWy) ?_ (nx + 1) 0 ec Xew (by omega) (by omega) hW hO hM (fun i' j' ny q => absurd q (by omega))⟩
      intro ec' ew' g1 g2 g3 g4
      refine fin ec' ew' g1 g2 (fun z => z.elim (fun w => absurd w hnx) g3) ?_
      intro i j nx' ny p1 p2 p3 p4 p5 p6
      rw [h2, nI_eq (by omega) (by omega)] at p3
      exact g4 i j ny (by omega) p2 p4 p6
    refine br_f (by rw [h2]; exact nI_pos (by omega)) (br_c (fun h0 => nm_e (go _ (Or.inr ⟨0, by omega, pk_us, fun i hi => absurd hi (by omega)⟩) (O8 _) ?_)) (fun h0 => nm_e (go _ W8 (O8 _) (fun _ => pk_us))))
    intro z
    rw [z] at h0
    exact absurd h0 (by decide)
end
end
section
/-! ===== X: analyseBinary, analyseUnary, candidates ===== -/
theorem an_Ur {a : Nat} {hd tl : Nat → Int64} {md ec ew : Nat → Int32} : an_U a hd tl md ec ew hd tl md ec ew := fun _ _ _ => ⟨rfl, rfl, rfl, rfl, fun _ _ => rfl⟩
section
variable {Xdc Xml Xmn Xal Xpr Xnc Xps Xtp Xsr Xhi : Int32} {Xwd Xln Xgc Xpo Xkd Xmk Xnu Xfi Xla Xfo Xac Xmd Xec Xew Xh1 Xh2 : Nat → Int32} {Xhd Xtl : Nat → Int64}
variable {L : Nat → Nat} {tt : Nat → Nat → Nat} {a : Nat} {A B : Nat → Nat → Nat → Prop}
theorem al_126 {post : SX → Prop} {b : Nat} (ha : a < 8) (hb : b < 8)
    (k : ∀ hA tA, (∀ i, ¬ Xhd b = 0 → 7 ≤ i → bl (Xhd a) i = true → bl hA i = true) → (∀ u v, u < 7 → v < 43 → bl (Xhd a) u = true → bl (Xhd b) v = true → bl hA (ah_hw (ad_jn u v)) = true) →
      (∀ i, ¬ Xtl a = 0 → 7 ≤ i → bl (Xtl b) i = true → bl tA i = true) → (∀ u v, u < 43 → v < 7 → bl (Xtl a) u = true → bl (Xtl b) v = true → bl tA (ah_tw (ad_jn u v)) = true) →
      post (Xdc, Xml, Xmn, Xal, Xpr, Xnc, Xps, Xtp, Xsr, Xhi, Xwd, Xln, Xgc, Xpo, Xkd, Xmk, Xnu, Xfi, Xla, Xfo, Xac, vp_updL Xhd a hA, vp_updL Xtl a tA, Xmd, Xec, Xew, Xh1, Xh2)) : wX_analyseBinary_126 post (nI a) (nI b) Xdc Xml Xmn Xal Xpr Xnc Xps Xtp Xsr Xhi Xwd Xln Xgc Xpo Xkd Xmk Xnu Xfi Xla Xfo Xac Xhd Xtl Xmd Xec Xew Xh1 Xh2 := by
  have va : vp_in (nI a) 8 := vp_in_nI (by omega) (by omega)
  have vb : vp_in (nI b) 8 := vp_in_nI (by omega) (by omega)
  have ia : (nI a).toNatClampNeg = a := nI_clamp (by omega)
  have ib : (nI b).toNatClampNeg = b := nI_clamp (by omega)
  unfold wX_analyseBinary_126
  rw [ia, ib]
  refine ⟨va, vb, an_heads (fun hA h1 h2 => ⟨va, nm_e ⟨va, vb, an_tails (fun tA t1 t2 => ⟨va, nm_e (k hA tA h1 h2 t1 t2)⟩)⟩⟩)⟩
theorem al_bin {post : SX → Prop} {kd : Int32} (hE : an_E Xpr Xpo L tt) (ha : a + 1 < 8) (hA : ∀ d s e, A d s e → s ≤ e) (hB : ∀ d s e, B d s e → s ≤ e) (h34 : kd = 3 ∨ kd = 4)
    (SA : an_S Xpr tt (an_QQ Xpr L A) Xhd Xtl Xmd Xec Xew a) (SB : an_S Xpr tt (an_QQ Xpr L B) Xhd Xtl Xmd Xec Xew (a + 1))
    (k : ∀ hd tl md ec ew, an_U a Xhd Xtl Xmd Xec Xew hd tl md ec ew → an_S Xpr tt (an_QQ Xpr L (fun d => aa_bin kd (A d) (B d))) hd tl md ec ew a → post (Xdc, Xml, Xmn, Xal, Xpr, Xnc, Xps, Xtp, Xsr, Xhi, Xwd, Xln, Xgc, Xpo, Xkd, Xmk, Xnu, Xfi, Xla, Xfo, Xac, hd, tl, md, ec, ew, Xh1, Xh2)) :
    wpX_analyseBinary post (Xdc, Xml, Xmn, Xal, Xpr, Xnc, Xps, Xtp, Xsr, Xhi, Xwd, Xln, Xgc, Xpo, Xkd, Xmk, Xnu, Xfi, Xla, Xfo, Xac, Xhd, Xtl, Xmd, Xec, Xew, Xh1, Xh2) kd (nI a) (nI (a + 1)) := by
  have va : vp_in (nI a) 8 := vp_in_nI (by omega) (by omega)
  have va9 : vp_in (nI a) 9 := vp_in_nI (by omega) (by omega)
  have vb : vp_in (nI (a + 1)) 8 := vp_in_nI (by omega) (by omega)
  have ia : (nI a).toNatClampNeg = a := nI_clamp (by omega)
  have ib : (nI (a + 1)).toNatClampNeg = a + 1 := nI_clamp (by omega)
  obtain ⟨wa, la, fa⟩ := SA
  obtain ⟨wb, lb, fb⟩ := SB
  have hT := hE.1
  unfold wpX_analyseBinary
  rw [ia, ib]
  rcases h34 with e | e
  · subst e
    refine br_f (by decide) (al_cat (by omega) (by omega) (by omega) wa wb (fun ec ew g1 g2 g3 g4 g5 => ⟨va9, ?_⟩))
    have hEC : ∀ d s m e, A d s m → B d m e → bt Xpr d = true → e ≤ L d → ec a = -1 ∨ (e - s ≤ 5 ∧ an_H ec ew a (nI (ad_cd (tt d) s (e - s)))) := by
      intro d s m e h1 h2 hp he
      have l1 := hA d s m h1
      have l2 := hB d m e h2
      obtain ⟨_, _, _, x1⟩ := fa d s m ⟨hp, by omega, h1⟩
      obtain ⟨_, _, _, x2⟩ := fb d m e ⟨hp, he, h2⟩
      rcases x1 with x1 | x1
      · exact Or.inl (g4 (Or.inl x1))
      · rcases x2 with x2 | x2
        · exact Or.inl (g4 (Or.inr x2))
        · have c1 := ad_le5 (hT d) s x1.1
          have c2 := ad_le5 (hT d) m x2.1
          have := g5 _ _ c1 c2 x1.2 x2.2
          have ej : ad_jn (ad_cd (tt d) s (m - s)) (ad_cd (tt d) m (e - m)) = ad_cd (tt d) s (e - s) := by
            have q := ad_jn_cd (hT d) s (m - s) (n := e - m) x2.1
            rw [show s + (m - s) = m from by omega, show m - s + (e - m) = e - s from by omega] at q
            exact q
          rw [ej] at this
          exact an_5 (hT d) g1 (by omega) this
    have fin : ∀ M : Int32, an_le Xpr M → (∀ d s m e, A d s m → B d m e → bt Xpr d = true → e ≤ L d → bt M d = true) → wX_analyseBinary_126 post (nI a) (nI (a + 1)) Xdc Xml Xmn Xal Xpr Xnc Xps Xtp Xsr Xhi Xwd Xln Xgc Xpo Xkd Xmk Xnu Xfi Xla Xfo Xac Xhd Xtl (upd Xmd a M) ec ew Xh1 Xh2 := by
      intro M hM1 hM2
      refine al_126 (Xmd := upd Xmd a M) (Xec := ec) (Xew := ew) (by omega) ha (fun hA' tA' h1 h2 t1 t2 => k _ _ _ ec ew ?_ ⟨g1, ?_, ?_⟩)
      · intro y hy hy8
        exact ⟨pk_uLn hy, pk_uLn hy, pk_un hy, g2 y hy hy8, g3 y hy hy8⟩
      · rw [pk_us]; exact hM1
      · intro d s e q
        obtain ⟨q1, q2, q3⟩ := q
        rcases q3 with q3 | q3
        · exact absurd q3.1 (by decide)
        · obtain ⟨_, m, h3, h4⟩ := q3
          have l1 := hA d s m h3
          have l2 := hB d m e h4
          obtain ⟨xa1, xa2, xa3, _⟩ := fa d s m ⟨q1, by omega, h3⟩
          obtain ⟨xb1, xb2, xb3, _⟩ := fb d m e ⟨q1, q2, h4⟩
          rw [pk_uLs, pk_uLs, pk_us]
          refine ⟨?_, ?_, hM2 d s m e h3 h4 q1 q2, hEC d s m e h3 h4 q1 q2⟩
          · by_cases z : m - s ≤ 1
            · obtain ⟨c1, c2⟩ := ah_hcat (hT d) l1 l2 z
              have := h2 _ _ c1 (ah_h_43 (hT d)) xa1 xb1
              rw [c2] at this
              exact this
            · obtain ⟨c1, c2⟩ := ah_hbig (hT d) (s := s) l2 (by omega)
              rw [c2]
              exact h1 _ (bl_ne0 xb1) c1 xa1
          · by_cases z : e - m ≤ 1
            · obtain ⟨c1, c2⟩ := ah_tcat (hT d) l1 l2 z
              have := t2 _ _ (ah_t_43 (hT d)) c1 xa2 xb2
              rw [c2] at this
              exact this
            · obtain ⟨c1, c2⟩ := ah_tbig (hT d) (e := e) l1 (by omega)
              rw [c2]
              exact t1 _ (bl_ne0 xa2) c1 xb2
    rcases an_Wn g1 with h | h
    · refine br_t (by rw [h]; decide) ⟨va, vb, an_seam (Xec := ec) (Xew := ew) hE (fun r r1 r2 => ⟨va, vb, va, nm_e (fin _ ?_ ?_)⟩)⟩
      · intro d z
        exact r1 d ((ab_andI _ _ _).mp z).2
      · intro d s m e h3 h4 hp he
        have l1 := hA d s m h3
        have l2 := hB d m e h4
        obtain ⟨xa1, xa2, xa3, _⟩ := fa d s m ⟨hp, by omega, h3⟩
        obtain ⟨xb1, xb2, xb3, _⟩ := fb d m e ⟨hp, he, h4⟩
        obtain ⟨s', n', p1, p2, p3, p4⟩ := ah_seam (hT d) l1 l2
        refine (ab_andI _ _ _).mpr ⟨(ab_andI _ _ _).mpr ⟨xa3, xb3⟩, ?_⟩
        exact r2 _ _ (ah_t_43 (hT d)) (ah_h_43 (hT d)) xa2 xb1 d s' n' hp (by omega) (by omega) (by rw [p4])
    · obtain ⟨n0, h1, h2⟩ := h
      refine br_f (by rw [h2]; exact nI_pos (by omega)) (an_xd (Xec := ec) (Xew := ew) hE (by omega) (Or.inr ⟨n0, h1, h2⟩) (fun r r1 r2 => ⟨va, nm_e (fin _ r1 ?_)⟩))
      intro d s m e h3 h4 hp he
      have l1 := hA d s m h3
      have l2 := hB d m e h4
      rcases hEC d s m e h3 h4 hp he with z | z
      · exact (an_neg z h2 h1).elim
      · rcases z.2 with w | w
        · exact (an_neg w h2 h1).elim
        · obtain ⟨n1, i, w0, w1, w2, w3⟩ := w
          exact r2 n1 i w0 w2 w1 d s (e - s) hp (by omega) (by omega) w3
  · subst e
    refine br_t rfl (al_alt (by omega) (by omega) (by omega) wa wb (fun ec ew g1 g2 g3 g4 => ⟨va, vb, va, nm_e ⟨va, vb, va, nm_e ⟨va, vb, va, nm_e (k _ _ _ ec ew ?_ ⟨g1, ?_, ?_⟩)⟩⟩⟩))
    · intro y hy hy8
      exact ⟨pk_uLn hy, pk_uLn hy, pk_un hy, g2.1 y hy, fun i hi => g2.2 _ (by omega)⟩
    · rw [pk_us]; exact an_le_or la lb
    · intro d s e q
      obtain ⟨q1, q2, q3⟩ := q
      rw [pk_uLs, pk_uLs, pk_us]
      rcases q3 with q3 | q3
      · rcases q3.2 with q | q
        · obtain ⟨x1, x2, x3, x4⟩ := fa d s e ⟨q1, q2, q⟩
          refine ⟨(bl_orI _ _ _).mpr (Or.inl x1), (bl_orI _ _ _).mpr (Or.inl x2), (ab_orI _ _ _).mpr (Or.inl x3), ?_⟩
          rcases x4 with x4 | x4
          · exact Or.inl (an_m1 g1 (fun c => g3 c (Or.inl x4)))
          · exact Or.inr ⟨x4.1, g3 _ x4.2⟩
        · obtain ⟨x1, x2, x3, x4⟩ := fb d s e ⟨q1, q2, q⟩
          refine ⟨(bl_orI _ _ _).mpr (Or.inr x1), (bl_orI _ _ _).mpr (Or.inr x2), (ab_orI _ _ _).mpr (Or.inr x3), ?_⟩
          rcases x4 with x4 | x4
          · exact Or.inl (an_m1 g1 (fun c => g4 c (Or.inl x4)))
          · exact Or.inr ⟨x4.1, g4 _ x4.2⟩
      · exact absurd rfl q3.1
theorem al_72 {post : SX → Prop} {kd : Int32} (ha : a < 8) (SA : an_S Xpr tt (an_QQ Xpr L A) Xhd Xtl Xmd Xec Xew a) (hz : Xec a = -1 ∨ an_H Xec Xew a 0)
    (k : ∀ hd tl md, an_U a Xhd Xtl Xmd Xec Xew hd tl md Xec Xew → an_S Xpr tt (an_QQ Xpr L (fun d s e => A d s e ∨ (¬ kd = 6 ∧ e = s))) hd tl md Xec Xew a → post (Xdc, Xml, Xmn, Xal, Xpr, Xnc, Xps, Xtp, Xsr, Xhi, Xwd, Xln, Xgc, Xpo, Xkd, Xmk, Xnu, Xfi, Xla, Xfo, Xac, hd, tl, md, Xec, Xew, Xh1, Xh2)) :
    wX_analyseUnary_72 post kd (nI a) Xdc Xml Xmn Xal Xpr Xnc Xps Xtp Xsr Xhi Xwd Xln Xgc Xpo Xkd Xmk Xnu Xfi Xla Xfo Xac Xhd Xtl Xmd Xec Xew Xh1 Xh2 := by
  have va : vp_in (nI a) 8 := vp_in_nI (by omega) (by omega)
  have ia : (nI a).toNatClampNeg = a := nI_clamp (by omega)
  obtain ⟨wa, la, fa⟩ := SA
  unfold wX_analyseUnary_72
  rw [ia]
  refine br_c (fun h => k Xhd Xtl Xmd an_Ur ⟨wa, la, fun d s e q => fa d s e ⟨q.1, q.2.1, q.2.2.elim id (fun z => absurd h z.1)⟩⟩) (fun h => ⟨va, va, nm_e ⟨va, va, nm_e ⟨va, nm_e (k _ _ _ ?_ ⟨wa, ?_, ?_⟩)⟩⟩⟩)
  · intro y hy hy8
    exact ⟨pk_uLn hy, pk_uLn hy, pk_un hy, rfl, fun _ _ => rfl⟩
  · rw [pk_us]; exact fun _ z => z
  · intro d s e q
    obtain ⟨q1, q2, q3⟩ := q
    rw [pk_uLs, pk_uLs, pk_us]
    rcases q3 with q3 | q3
    · obtain ⟨x1, x2, x3, x4⟩ := fa d s e ⟨q1, q2, q3⟩
      exact ⟨(bl_orI _ _ _).mpr (Or.inl x1), (bl_orI _ _ _).mpr (Or.inl x2), q1, x4⟩
    · have e1 : e = s := q3.2
      subst e1
      have b1 : bl 1 0 = true := by rw [bl_1 0 (by omega)]; rfl
      rw [ah_h_s (by omega), ah_t_s (by omega), Nat.sub_self, ad_b0]
      refine ⟨(bl_orI _ _ _).mpr (Or.inr b1), (bl_orI _ _ _).mpr (Or.inr b1), q1, ?_⟩
      rcases hz with z | z
      · exact Or.inl z
      · exact Or.inr ⟨by omega, z⟩
theorem al_un {post : SX → Prop} {kd : Int32} (hE : an_E Xpr Xpo L tt) (ha : a < 8) (hA : ∀ d s e, A d s e → s ≤ e)
    (SA : an_S Xpr tt (an_QQ Xpr L A) Xhd Xtl Xmd Xec Xew a)
    (k : ∀ hd tl md ec ew, an_U a Xhd Xtl Xmd Xec Xew hd tl md ec ew → an_S Xpr tt (an_QQ Xpr L (fun d => aa_un kd (A d))) hd tl md ec ew a → post (Xdc, Xml, Xmn, Xal, Xpr, Xnc, Xps, Xtp, Xsr, Xhi, Xwd, Xln, Xgc, Xpo, Xkd, Xmk, Xnu, Xfi, Xla, Xfo, Xac, hd, tl, md, ec, ew, Xh1, Xh2)) :
    wpX_analyseUnary post (Xdc, Xml, Xmn, Xal, Xpr, Xnc, Xps, Xtp, Xsr, Xhi, Xwd, Xln, Xgc, Xpo, Xkd, Xmk, Xnu, Xfi, Xla, Xfo, Xac, Xhd, Xtl, Xmd, Xec, Xew, Xh1, Xh2) kd (nI a) := by
  have va : vp_in (nI a) 8 := vp_in_nI (by omega) (by omega)
  have va9 : vp_in (nI a) 9 := vp_in_nI (by omega) (by omega)
  have ia : (nI a).toNatClampNeg = a := nI_clamp (by omega)
  obtain ⟨wa, la, fa⟩ := SA
  have hT := hE.1
  unfold wpX_analyseUnary
  rw [ia]
  refine br_c (fun h7 => an_add (by omega) wa (fun ec ew g1 g2 g3 g4 g5 => ?_)) (fun h7 => ⟨va9, nm_e ⟨va, va, va, an_heads (Xec := upd Xec a (-1)) (fun r r1 r2 => ⟨va, nm_e ⟨va, va, va, an_tails (Xec := upd Xec a (-1)) (Xhd := vp_updL Xhd a (Xhd a ||| r)) (fun q q1 q2 => ⟨va, nm_e ?_⟩)⟩⟩)⟩⟩)
  · refine al_72 (Xec := ec) (Xew := ew) (L := L) (A := A) ha ⟨g1, la, ?_⟩ (Or.inr g4) (fun hd tl md hU hS => k hd tl md ec ew ?_ (an_Sq hS ?_))
    · intro d s e q
      obtain ⟨x1, x2, x3, x4⟩ := fa d s e q
      refine ⟨x1, x2, x3, ?_⟩
      rcases x4 with x4 | x4
      · exact Or.inl (an_m1 g1 (fun c => g3 c (Or.inl x4)))
      · exact Or.inr ⟨x4.1, g3 _ x4.2⟩
    · intro y hy hy8
      obtain ⟨u1, u2, u3, _, _⟩ := hU y hy hy8
      exact ⟨u1, u2, u3, g2.1 y hy, fun i hi => g2.2 _ (by omega)⟩
    · intro d s e q
      refine ⟨q.1, q.2.1, ?_⟩
      rcases q.2.2 with z | z | z
      · exact Or.inl z.2
      · exact absurd h7 z.1
      · exact Or.inr z
  · have S1 : an_S Xpr tt (an_QQ Xpr L (fun d => aa_pl (A d))) (vp_updL Xhd a (Xhd a ||| r)) (vp_updL Xtl a (Xtl a ||| q)) Xmd (upd Xec a (-1)) Xew a := by
      refine ⟨Or.inl pk_us, la, ?_⟩
      intro d s e z
      obtain ⟨z1, z2, z3⟩ := z
      rw [pk_uLs, pk_uLs]
      refine ⟨?_, ?_, ?_, Or.inl pk_us⟩
      · refine ah_hpl (hT d) (hA d) (H := Xhd a) (L d) ?_ (fun i hi => (bl_orI _ _ _).mpr (Or.inl hi)) (fun u v h1 h2 h3 h4 => (bl_orI _ _ _).mpr (Or.inr (r2 u v h1 h2 h3 h4))) z3 z2
        intro s e he hs
        exact (fa d s e ⟨z1, he, hs⟩).1
      · refine ah_tpl (hT d) (hA d) (H := Xtl a) (L d) ?_ (fun i hi => (bl_orI _ _ _).mpr (Or.inl hi)) (fun u v h1 h2 h3 h4 => (bl_orI _ _ _).mpr (Or.inr (q2 u v h1 h2 h3 h4))) z3 z2
        intro s e he hs
        exact (fa d s e ⟨z1, he, hs⟩).2.1
      · obtain ⟨b, hb1, hb2⟩ := ah_first (hA d) z3
        exact (fa d s b ⟨z1, by omega, hb1⟩).2.2.1
    refine al_72 (Xhd := vp_updL Xhd a (Xhd a ||| r)) (Xtl := vp_updL Xtl a (Xtl a ||| q)) (Xec := upd Xec a (-1)) (L := L) (A := fun d => aa_pl (A d)) ha S1 (Or.inl pk_us) (fun hd tl md hU hS => k hd tl md _ Xew ?_ (an_Sq hS ?_))
    · intro y hy hy8
      obtain ⟨u1, u2, u3, u4, u5⟩ := hU y hy hy8
      rw [pk_uLn hy] at u1
      rw [pk_uLn hy] at u2
      exact ⟨u1, u2, u3, pk_un hy, u5⟩
    · intro d s e q
      refine ⟨q.1, q.2.1, ?_⟩
      rcases q.2.2 with z | z | z
      · exact absurd z.1 h7
      · exact Or.inl z.2
      · exact Or.inr z
end
section
variable {Xdc Xml Xmn Xal Xpr Xnc Xps Xtp Xsr Xhi : Int32} {Xwd Xln Xgc Xpo Xkd Xmk Xnu Xfi Xla Xfo Xac Xmd Xec Xew Xh1 Xh2 : Nat → Int32} {Xhd Xtl : Nat → Int64}
variable {L : Nat → Nat} {tt : Nat → Nat → Nat} {nc : Nat}
theorem al_cand {post : Int32 → SX → Prop} (hE : an_E Xpr Xpo L tt) (hn : nc ≤ 24) (hV : nd_V Xkd nc)
    (kk : ∀ hd tl md ec ew, (∀ x, x < aa_dep Xkd nc → an_S Xpr tt (an_QQ Xpr L (fun d => aa_stk (tt d) Xkd Xmk nc x)) hd tl md ec ew x) → post (md 0) (Xdc, Xml, Xmn, Xal, Xpr, nI nc, Xps, Xtp, Xsr, Xhi, Xwd, Xln, Xgc, Xpo, Xkd, Xmk, Xnu, Xfi, Xla, Xfo, Xac, hd, tl, md, ec, ew, Xh1, Xh2)) :
    ∀ (n i : Nat) (hd tl : Nat → Int64) (md ec ew : Nat → Int32), i ≤ nc → nc - i < n → (∀ x, x < aa_dep Xkd i → an_S Xpr tt (an_QQ Xpr L (fun d => aa_stk (tt d) Xkd Xmk i x)) hd tl md ec ew x) →
      wX_candidates_4 post n (nI (aa_dep Xkd i)) (nI i) Xdc Xml Xmn Xal Xpr (nI nc) Xps Xtp Xsr Xhi Xwd Xln Xgc Xpo Xkd Xmk Xnu Xfi Xla Xfo Xac hd tl md ec ew Xh1 Xh2 := by
  intro n
  induction n with
  | zero => intro i hd tl md ec ew _ h; exact absurd h (by omega)
  | succ n ih =>
    intro i hd tl md ec ew hi hm hI
    unfold wX_candidates_4
    by_cases e : i = nc
    · subst e
      exact br_t (nI_le (Nat.le_refl _) (by omega)) (kk hd tl md ec ew hI)
    · have v : vp_in (nI i) 24 := vp_in_nI (by omega) (by omega)
      have ii : (nI i).toNatClampNeg = i := nI_clamp (by omega)
      have hv := hV i (by omega)
      have h8 := nd_V8 hV i (by omega)
      have hr : ∀ hd' tl' md' ec' ew', (∀ x, x < aa_dep Xkd (i + 1) → an_S Xpr tt (an_QQ Xpr L (fun d => aa_stk (tt d) Xkd Xmk (i + 1) x)) hd' tl' md' ec' ew' x) →
          wX_candidates_4 post n (nI (aa_dep Xkd (i + 1))) (nI (i + 1)) Xdc Xml Xmn Xal Xpr (nI nc) Xps Xtp Xsr Xhi Xwd Xln Xgc Xpo Xkd Xmk Xnu Xfi Xla Xfo Xac hd' tl' md' ec' ew' Xh1 Xh2 := fun hd' tl' md' ec' ew' h => ih (i + 1) hd' tl' md' ec' ew' (by omega) (by omega) h
      refine br_f (nI_ge (by omega) (by omega)) ⟨v, ?_⟩
      rw [ii]
      refine nm_e (br_c (fun h2 => br_c (fun h4 => ?_) (fun h4 => ?_)) (fun h2 => ⟨v, ?_⟩))
      · obtain ⟨a, ea⟩ : ∃ a, aa_dep Xkd i = a + 1 := ⟨aa_dep Xkd i - 1, by have := hv.2.2 h4; omega⟩
        rw [aa_dep_un h2 h4, ea] at hr
        rw [ea, nI_pred]
        refine al_un (Xnc := nI nc) (Xhd := hd) (Xtl := tl) (Xmd := md) (Xec := ec) (Xew := ew) (A := fun d => aa_stk (tt d) Xkd Xmk i a) hE (by omega) (fun d => aa_stk_le i a) (hI a (by omega)) (fun hd' tl' md' ec' ew' hU hS => nm_r (nI_1 i) (hr hd' tl' md' ec' ew' ?_))
        intro x hx
        by_cases ex : x = a
        · subst ex
          refine an_Sq hS (fun d s e q => ⟨q.1, q.2.1, ?_⟩)
          have this : aa_stk (tt d) Xkd Xmk (i + 1) x s e := q.2.2
          rw [aa_stk_un h2 h4, if_pos ea.symm] at this
          exact this
        · refine an_Sq (an_Sc (hI x (by omega)) (by omega) hU ex) (fun d s e q => ⟨q.1, q.2.1, ?_⟩)
          have this : aa_stk (tt d) Xkd Xmk (i + 1) x s e := q.2.2
          rw [aa_stk_un h2 h4, if_neg (by omega)] at this
          exact this
      · obtain ⟨a, ea⟩ : ∃ a, aa_dep Xkd i = a + 2 := ⟨aa_dep Xkd i - 2, by have := hv.2.1 h2 h4; omega⟩
        rw [aa_dep_bin h2 h4, ea] at hr
        rw [ea]
        refine nm_r (pk_m1 (a + 1)) ?_
        rw [nI_pred]
        refine al_bin (Xnc := nI nc) (Xhd := hd) (Xtl := tl) (Xmd := md) (Xec := ec) (Xew := ew) (A := fun d => aa_stk (tt d) Xkd Xmk i a) (B := fun d => aa_stk (tt d) Xkd Xmk i (a + 1)) hE (by omega) (fun d => aa_stk_le i a) (fun d => aa_stk_le i (a + 1)) (nd_34 h2 h4) (hI a (by omega)) (hI (a + 1) (by omega)) (fun hd' tl' md' ec' ew' hU hS => nm_r (nI_1 i) (hr hd' tl' md' ec' ew' ?_))
        intro x hx
        by_cases ex : x = a
        · subst ex
          refine an_Sq hS (fun d s e q => ⟨q.1, q.2.1, ?_⟩)
          have this : aa_stk (tt d) Xkd Xmk (i + 1) x s e := q.2.2
          rw [aa_stk_bin h2 h4, if_pos ea.symm] at this
          exact this
        · refine an_Sq (an_Sc (hI x (by omega)) (by omega) hU ex) (fun d s e q => ⟨q.1, q.2.1, ?_⟩)
          have this : aa_stk (tt d) Xkd Xmk (i + 1) x s e := q.2.2
          rw [aa_stk_bin h2 h4, if_neg (by omega)] at this
          exact this
      · have hlt := hv.1 h2
        rw [aa_dep_leaf h2] at hr
        refine al_leaf (Xnc := nI nc) (Xhd := hd) (Xtl := tl) (Xmd := md) (Xec := ec) (Xew := ew) hE hlt (fun hd' tl' md' ec' ew' hU hS => nm_r (nI_1 _) (nm_r (nI_1 i) (hr hd' tl' md' ec' ew' ?_)))
        intro x hx
        by_cases ex : x = aa_dep Xkd i
        · rw [ex]
          refine an_Sq hS (fun d s e q => ⟨q.1, q.2.1, ?_⟩)
          have this : aa_stk (tt d) Xkd Xmk (i + 1) (aa_dep Xkd i) s e := q.2.2
          rw [aa_stk_leaf h2, if_pos rfl] at this
          exact this
        · refine an_Sq (an_Sc (hI x (by omega)) (by omega) hU ex) (fun d s e q => ⟨q.1, q.2.1, ?_⟩)
          have this : aa_stk (tt d) Xkd Xmk (i + 1) x s e := q.2.2
          rw [aa_stk_leaf h2, if_neg ex] at this
          exact this
end
section
variable {Xdc Xml Xmn Xal Xpr Xnc Xps Xtp Xsr Xhi : Int32} {Xwd Xln Xgc Xpo Xkd Xmk Xnu Xfi Xla Xfo Xac Xmd Xec Xew Xh1 Xh2 : Nat → Int32} {Xhd Xtl : Nat → Int64}
variable {D d AL nc ps : Nat} {L : Nat → Nat}
theorem al_env (hD : D ≤ 8) (hl : ∀ d, d < 8 → L d ≤ 12) (hw : rl_W Xwd AL) (hA : AL ≤ 6) (hp : ∀ d, bt Xpr d = true → d < D) (hI : ag_IG D Xgc Xpo (rl_C L) (rl_f Xwd)) : an_E Xpr Xpo L (rl_t Xwd) := by
  refine ⟨rl_6 hw hA, fun d h => hl d (by have := hp d h; omega), fun d p h h2 => ?_⟩
  have hd := hp d h
  have h12 := hl d (by omega)
  refine (hI.2.1 d _ (by omega) (ad_tri_lt (rl_6 hw hA d) p)).mpr (ag_cg_pos.mpr ⟨p, by omega, decide_eq_true h2, rfl⟩)
theorem al_24 (hN : nd_N Xkd Xmk Xnu Xfi Xla Xfo Xac nc ps 1) : ∀ c p, au_ac Xac p c → p < 24 := by
  intro c p h
  obtain ⟨n1, n2, _, _, n5, _⟩ := hN
  obtain ⟨⟨ow, w⟩, _⟩ := n5
  have := w.2.2.2.2 c p h
  omega
theorem al_AS (hN : nd_N Xkd Xmk Xnu Xfi Xla Xfo Xac nc ps 1) (t : Nat → Nat) : au_A Xnu Xfi Xla Xfo Xac t 0 = aa_stk t Xkd Xmk nc 0 := by
  funext s e
  exact propext ((hN.2.2.2.2.1.2 t 0 s e (by omega)).symm)
theorem xs_search_t {post : Int32 → SX → Prop} (hD : D ≤ 8) (hl : ∀ d, d < 8 → Xln d = nI (L d) ∧ L d ≤ 12) (hw : rl_W Xwd AL) (hA : AL ≤ 6) (hp : ∀ d, bt Xpr d = true → d < D) (hI : ag_IG D Xgc Xpo (rl_C L) (rl_f Xwd))
    (hN : nd_N Xkd Xmk Xnu Xfi Xla Xfo Xac nc ps 1) (hV : nd_V Xkd nc)
    (kk : ∀ hd tl md ec ew hi h1 h2, xq_G (fun i => aa_stk (rl_t Xwd i) Xkd Xmk nc 0) L Xpr hi h1 h2 D → post (nI (sb_n hi D)) (nI D, Xml, Xmn, Xal, Xpr, nI nc, Xps, 1, 1, hi, Xwd, Xln, Xgc, Xpo, Xkd, Xmk, Xnu, Xfi, Xla, Xfo, Xac, hd, tl, md, ec, ew, h1, h2)) :
    wpX_search post (nI D, Xml, Xmn, Xal, Xpr, nI nc, Xps, 1, Xsr, Xhi, Xwd, Xln, Xgc, Xpo, Xkd, Xmk, Xnu, Xfi, Xla, Xfo, Xac, Xhd, Xtl, Xmd, Xec, Xew, Xh1, Xh2) := by
  have hE := al_env hD (fun d hd => (hl d hd).2) hw hA hp hI
  have h1 : aa_dep Xkd nc = 1 := hN.2.2.1
  have eA : (fun i => au_A Xnu Xfi Xla Xfo Xac (rl_t Xwd i) 0) = (fun i => aa_stk (rl_t Xwd i) Xkd Xmk nc 0) := funext fun i => al_AS hN (rl_t Xwd i)
  unfold wpX_search wpX_candidates
  refine br_t rfl ⟨nc + 1, al_cand (Xdc := nI D) (Xtp := 1) hE hN.1 hV ?_ (nc + 1) 0 Xhd Xtl Xmd Xec Xew (by omega) (by omega) (fun x hx => absurd hx (by show ¬ x < 0; omega))⟩
  intro hd tl md ec ew hS
  obtain ⟨_, s2, s3⟩ := hS 0 (by omega)
  refine ⟨D + 1, xq_30 (Xtp := 1) (Xnc := nI nc) (Xsr := 1) (Xhd := hd) (Xtl := tl) (Xmd := md) (Xec := ec) (Xew := ew) hD hl hw hA (al_24 hN) s2 ?_ ?_ (D + 1) 0 0 Xh1 Xh2 (by omega) (by omega) ?_⟩
  · intro i hi hF
    rw [eA] at hF
    obtain ⟨f1, f2⟩ := hF
    obtain ⟨s, e, g1, g2⟩ : ∃ s e, e ≤ L i ∧ aa_stk (rl_t Xwd i) Xkd Xmk nc 0 s e := by
      apply Classical.byContradiction
      intro z
      exact f2 (fun s e _ h2 h3 => z ⟨s, e, h2, h3⟩)
    exact (s3 i s e ⟨f1, g1, g2⟩).2.2.1
  · rw [eA]
    intro hi h1 h2 hG
    exact kk hd tl md ec ew hi h1 h2 hG
  · refine ⟨fun i => ?_, fun i h => absurd h (by omega)⟩
    exact ⟨fun z => absurd z ab_zz, fun z => absurd z.1 (by omega)⟩
theorem xs_search_f {post : Int32 → SX → Prop} {tp : Nat} (ht : tp ≤ 8) (h1 : ¬ tp = 1) (k : post (-6) (Xdc, Xml, Xmn, Xal, Xpr, Xnc, Xps, nI tp, Xsr, Xhi, Xwd, Xln, Xgc, Xpo, Xkd, Xmk, Xnu, Xfi, Xla, Xfo, Xac, Xhd, Xtl, Xmd, Xec, Xew, Xh1, Xh2)) : wpX_search post (Xdc, Xml, Xmn, Xal, Xpr, Xnc, Xps, nI tp, Xsr, Xhi, Xwd, Xln, Xgc, Xpo, Xkd, Xmk, Xnu, Xfi, Xla, Xfo, Xac, Xhd, Xtl, Xmd, Xec, Xew, Xh1, Xh2) := by
  unfold wpX_search
  refine br_f ?_ k
  show ¬ nI tp = nI 1
  rw [nI_eq (by omega) (by omega)]
  exact h1
theorem xs_whole_f1 {post : Int32 → Prop} (hD : D ≤ 8) {p : Int32} (hp : ¬ ∃ d, d < D ∧ p = nI d) (k : post (-1)) : wpX_whole post (nI D, Xml, Xmn, Xal, Xpr, Xnc, Xps, Xtp, Xsr, Xhi, Xwd, Xln, Xgc, Xpo, Xkd, Xmk, Xnu, Xfi, Xla, Xfo, Xac, Xhd, Xtl, Xmd, Xec, Xew, Xh1, Xh2) p := by
  unfold wpX_whole
  exact xw_isDoc_f hD hp (br_t rfl k)
theorem xs_whole_f2 {post : Int32 → Prop} (hD : D ≤ 8) (hd : d < D) (hp : bt Xpr d = false) (k : post (-5)) : wpX_whole post (nI D, Xml, Xmn, Xal, Xpr, Xnc, Xps, Xtp, Xsr, Xhi, Xwd, Xln, Xgc, Xpo, Xkd, Xmk, Xnu, Xfi, Xla, Xfo, Xac, Xhd, Xtl, Xmd, Xec, Xew, Xh1, Xh2) (nI d) := by
  unfold wpX_whole
  exact xw_isDoc_t hD hd (br_f (by decide) (xw_isPresent_f (by omega) hp (br_t rfl k)))
theorem xs_whole_f3 {post : Int32 → Prop} {tp : Nat} (hD : D ≤ 8) (hd : d < D) (hp : bt Xpr d = true) (ht : tp ≤ 8) (h1 : ¬ tp = 1) (k : post (-6)) : wpX_whole post (nI D, Xml, Xmn, Xal, Xpr, Xnc, Xps, nI tp, Xsr, Xhi, Xwd, Xln, Xgc, Xpo, Xkd, Xmk, Xnu, Xfi, Xla, Xfo, Xac, Xhd, Xtl, Xmd, Xec, Xew, Xh1, Xh2) (nI d) := by
  unfold wpX_whole
  refine xw_isDoc_t (Xtp := nI tp) hD hd (br_f (by decide) (xw_isPresent_t (Xdc := nI D) (Xtp := nI tp) (by omega) hp (br_f (by decide) (br_f ?_ k))))
  show ¬ nI tp = nI 1
  rw [nI_eq (by omega) (by omega)]
  exact h1
theorem xs_whole_t {post : Int32 → Prop} (hD : D ≤ 8) (hd : d < D) (hp : bt Xpr d = true) (hl : Xln d = nI (L d) ∧ L d ≤ 12) (hw : rl_W Xwd AL) (hA : AL ≤ 6) (hN : nd_N Xkd Xmk Xnu Xfi Xla Xfo Xac nc ps 1)
    (k : ∀ r, (aa_stk (rl_t Xwd d) Xkd Xmk nc 0 0 (L d) → r = 1) → (¬ aa_stk (rl_t Xwd d) Xkd Xmk nc 0 0 (L d) → r = 0) → post r) : wpX_whole post (nI D, Xml, Xmn, Xal, Xpr, Xnc, Xps, 1, Xsr, Xhi, Xwd, Xln, Xgc, Xpo, Xkd, Xmk, Xnu, Xfi, Xla, Xfo, Xac, Xhd, Xtl, Xmd, Xec, Xew, Xh1, Xh2) (nI d) := by
  unfold wpX_whole
  refine xw_isDoc_t (Xtp := 1) hD hd (br_f (by decide) (xw_isPresent_t (Xdc := nI D) (Xtp := 1) (by omega) hp (br_f (by decide) (br_t rfl ?_))))
  refine xq_longest (Xdc := nI D) (Xtp := 1) (s := 0) (by omega) hl.2 hl.1 hw hA (al_24 hN) (by omega) (fun r hr => ⟨vp_in_nI (by omega) (by omega), ?_⟩)
  rw [nI_clamp (by omega), hl.1]
  rw [al_AS hN] at hr
  rcases hr with hr | hr
  · obtain ⟨e1, hr⟩ := hr
    subst e1
    refine br_f ?_ (k 0 (fun z => absurd z (hr _ (Nat.le_refl _))) (fun _ => rfl))
    intro z
    have h0 : ¬ nI (L d) < 0 := nI_pos (by omega)
    rw [← z] at h0
    exact h0 (by decide)
  · obtain ⟨e, e1, h1, h2, h3, h4⟩ := hr
    subst e1
    refine br_c (fun z => ?_) (fun z => ?_)
    · rw [nI_eq (by omega) (by omega)] at z
      subst z
      exact k 1 (fun _ => rfl) (fun z => absurd h3 z)
    · rw [nI_eq (by omega) (by omega)] at z
      exact k 0 (fun w => absurd w (h4 _ (by omega) (Nat.le_refl _))) (fun _ => rfl)
end
end
section
/-! ===== the relation ===== -/
def rr_T (D ML AL : Nat) (L : Nat → Nat) (pr : Int32) (wd ln ypr ysz : Nat → Int32) : Prop :=
  rl_W wd AL ∧ (∀ d, d < 8 → ln d = nI (L d) ∧ L d ≤ ML) ∧ (∀ d, bt pr d = true → d < D) ∧ (∀ d, d < 8 → (bt pr d = true ↔ ¬ ypr d = 0)) ∧
  (∀ d, d < 8 → bt pr d = true → ysz d = nI (L d)) ∧ (∀ d, d < 8 → bt pr d = false → L d = 0)
def rr_S (D : Nat) (hi : Int32) (h1 h2 yhi yh1 yh2 : Nat → Int32) : Prop :=
  ∀ d, d < D → (bt hi d = true ↔ ¬ yhi d = 0) ∧ (bt hi d = true → h1 d = yh1 d ∧ h2 d = yh2 d)
def rr_N (AL : Nat) (kd mk ar nu fi la fo ac : Nat → Int32) (nc ps tp : Nat) : Prop := nd_N kd mk nu fi la fo ac nc ps tp ∧ nd_V kd nc ∧ nd_A AL kd mk ar nc
def rr_R (D ML MN AL nc ps tp : Nat) (L : Nat → Nat) (Xpr Xhi : Int32) (Xwd Xln Xgc Xpo Xkd Xmk Xnu Xfi Xla Xfo Xac Xh1 Xh2 Ypr Ysz Yar Yhi Yh1 Yh2 : Nat → Int32) : Prop :=
  (D ≤ 8 ∧ ML ≤ 12 ∧ MN ≤ 24 ∧ AL ≤ 6) ∧ rr_T D ML AL L Xpr Xwd Xln Ypr Ysz ∧ ag_IG D Xgc Xpo (rl_C L) (rl_f Xwd) ∧ rr_N AL Xkd Xmk Yar Xnu Xfi Xla Xfo Xac nc ps tp ∧ rr_S D Xhi Xh1 Xh2 Yhi Yh1 Yh2
/-- the relation at the head of a turn: near equality; the analysis arrays and Y's rel are free -/
def i_Rel (k : Nat) (u : SX) (v : SY) : Prop := ∃ (D ML MN AL nc ps tp : Nat) (L : Nat → Nat) (Xpr Xsr Xhi : Int32) (Xwd Xln Xgc Xpo Xkd Xmk Xnu Xfi Xla Xfo Xac : Nat → Int32) (Xhd Xtl : Nat → Int64) (Xmd Xec Xew Xh1 Xh2 Ypr Ysz Yar Yhi Yh1 Yh2 Yrl : Nat → Int32), u = (nI D, nI ML, nI MN, nI AL, Xpr, nI nc, nI ps, nI tp, Xsr, Xhi, Xwd, Xln, Xgc, Xpo, Xkd, Xmk, Xnu, Xfi, Xla, Xfo, Xac, Xhd, Xtl, Xmd, Xec, Xew, Xh1, Xh2) ∧ v = (nI D, nI ML, nI MN, nI AL, nI nc, Xsr, Ypr, Ysz, Xwd, Xkd, Yar, Yhi, Yh1, Yh2, Yrl) ∧ rr_R D ML MN AL nc ps tp L Xpr Xhi Xwd Xln Xgc Xpo Xkd Xmk Xnu Xfi Xla Xfo Xac Xh1 Xh2 Ypr Ysz Yar Yhi Yh1 Yh2
theorem i_up {k : Nat} {u : SX} {v : SY} (h : i_Rel k u v) : i_Rel (k + 4) u v := h
theorem zz_el {k : Nat} {u : SX} {v : SY} {P : SX → SY → Prop} (I : i_Rel k u v) (h : ∀ (D ML MN AL nc ps tp : Nat) (L : Nat → Nat) (Xpr Xsr Xhi : Int32) (Xwd Xln Xgc Xpo Xkd Xmk Xnu Xfi Xla Xfo Xac : Nat → Int32) (Xhd Xtl : Nat → Int64) (Xmd Xec Xew Xh1 Xh2 Ypr Ysz Yar Yhi Yh1 Yh2 Yrl : Nat → Int32), rr_R D ML MN AL nc ps tp L Xpr Xhi Xwd Xln Xgc Xpo Xkd Xmk Xnu Xfi Xla Xfo Xac Xh1 Xh2 Ypr Ysz Yar Yhi Yh1 Yh2 → P (nI D, nI ML, nI MN, nI AL, Xpr, nI nc, nI ps, nI tp, Xsr, Xhi, Xwd, Xln, Xgc, Xpo, Xkd, Xmk, Xnu, Xfi, Xla, Xfo, Xac, Xhd, Xtl, Xmd, Xec, Xew, Xh1, Xh2) (nI D, nI ML, nI MN, nI AL, nI nc, Xsr, Ypr, Ysz, Xwd, Xkd, Yar, Yhi, Yh1, Yh2, Yrl)) : P u v :=
  Exists.elim I fun D I => Exists.elim I fun ML I => Exists.elim I fun MN I => Exists.elim I fun AL I => Exists.elim I fun nc I => Exists.elim I fun ps I => Exists.elim I fun tp I => Exists.elim I fun L I => Exists.elim I fun Xpr I => Exists.elim I fun Xsr I => Exists.elim I fun Xhi I => Exists.elim I fun Xwd I => Exists.elim I fun Xln I => Exists.elim I fun Xgc I => Exists.elim I fun Xpo I => Exists.elim I fun Xkd I => Exists.elim I fun Xmk I => Exists.elim I fun Xnu I => Exists.elim I fun Xfi I => Exists.elim I fun Xla I => Exists.elim I fun Xfo I => Exists.elim I fun Xac I => Exists.elim I fun Xhd I => Exists.elim I fun Xtl I => Exists.elim I fun Xmd I => Exists.elim I fun Xec I => Exists.elim I fun Xew I => Exists.elim I fun Xh1 I => Exists.elim I fun Xh2 I => Exists.elim I fun Ypr I => Exists.elim I fun Ysz I => Exists.elim I fun Yar I => Exists.elim I fun Yhi I => Exists.elim I fun Yh1 I => Exists.elim I fun Yh2 I => Exists.elim I fun Yrl I =>  by
    rw [I.1, I.2.1]
    exact h D ML MN AL nc ps tp L Xpr Xsr Xhi Xwd Xln Xgc Xpo Xkd Xmk Xnu Xfi Xla Xfo Xac Xhd Xtl Xmd Xec Xew Xh1 Xh2 Ypr Ysz Yar Yhi Yh1 Yh2 Yrl I.2.2
theorem zz_in {k : Nat} {D ML MN AL nc ps tp : Nat} {L : Nat → Nat} {Xpr Xsr Xhi : Int32} {Xwd Xln Xgc Xpo Xkd Xmk Xnu Xfi Xla Xfo Xac : Nat → Int32} {Xhd Xtl : Nat → Int64} {Xmd Xec Xew Xh1 Xh2 Ypr Ysz Yar Yhi Yh1 Yh2 Yrl : Nat → Int32} (h : rr_R D ML MN AL nc ps tp L Xpr Xhi Xwd Xln Xgc Xpo Xkd Xmk Xnu Xfi Xla Xfo Xac Xh1 Xh2 Ypr Ysz Yar Yhi Yh1 Yh2) : i_Rel k (nI D, nI ML, nI MN, nI AL, Xpr, nI nc, nI ps, nI tp, Xsr, Xhi, Xwd, Xln, Xgc, Xpo, Xkd, Xmk, Xnu, Xfi, Xla, Xfo, Xac, Xhd, Xtl, Xmd, Xec, Xew, Xh1, Xh2) (nI D, nI ML, nI MN, nI AL, nI nc, Xsr, Ypr, Ysz, Xwd, Xkd, Yar, Yhi, Yh1, Yh2, Yrl) :=
  ⟨D, ML, MN, AL, nc, ps, tp, L, Xpr, Xsr, Xhi, Xwd, Xln, Xgc, Xpo, Xkd, Xmk, Xnu, Xfi, Xla, Xfo, Xac, Xhd, Xtl, Xmd, Xec, Xew, Xh1, Xh2, Ypr, Ysz, Yar, Yhi, Yh1, Yh2, Yrl, rfl, rfl, h⟩
theorem rl_zid {L : Nat → Nat} {d : Nat} : rl_z L d (L d) = L := by
  funext j
  by_cases e : j = d
  · rw [e, rl_zs]
  · rw [rl_zn e]
section
variable {D ML AL d m : Nat} {L : Nat → Nat} {pr pr' : Int32} {wd wd' ln ln' ypr ypr' ysz ysz' : Nat → Int32}
theorem rr_Tset (hT : rr_T D ML AL L pr wd ln ypr ysz) (hD : D ≤ 8) (hd : d < D) (hm : m ≤ ML) (hw : rl_W wd' AL) (h1 : ∀ j, ¬ j = d → ln' j = ln j ∧ ypr' j = ypr j ∧ ysz' j = ysz j)
    (h2 : ln' d = nI m ∧ ¬ ypr' d = 0 ∧ ysz' d = nI m) (h3 : ∀ i, bt pr' i = true ↔ (bt pr i = true ∨ i = d)) : rr_T D ML AL (rl_z L d m) pr' wd' ln' ypr' ysz' := by
  obtain ⟨t1, t2, t3, t4, t5, t6⟩ := hT
  obtain ⟨e1, e2, e3⟩ := h2
  refine ⟨hw, fun j hj => ?_, fun j hj => ?_, fun j hj => ?_, fun j hj hp => ?_, fun j hj hp => ?_⟩
  · by_cases e : j = d
    · rw [e, rl_zs]; exact ⟨e1, hm⟩
    · rw [rl_zn e, (h1 j e).1]; exact t2 j hj
  · rcases (h3 j).mp hj with z | z
    · exact t3 j z
    · omega
  · by_cases e : j = d
    · rw [e]; exact ⟨fun _ => e2, fun _ => (h3 d).mpr (Or.inr rfl)⟩
    · rw [h3 j, (h1 j e).2.1, ← t4 j hj]
      exact ⟨fun z => z.elim id (fun w => absurd w e), Or.inl⟩
  · by_cases e : j = d
    · rw [e, rl_zs]; exact e3
    · rw [rl_zn e, (h1 j e).2.2]
      exact t5 j hj (((h3 j).mp hp).elim id (fun w => absurd w e))
  · have hno : ¬ (bt pr j = true ∨ j = d) := fun z => by
      have := (h3 j).mpr z
      rw [hp] at this
      exact absurd this (by decide)
    rw [rl_zn (fun e => hno (Or.inr e))]
    exact t6 j hj (ab_nt (fun z => hno (Or.inl z)))
theorem rr_Tclr (hT : rr_T D ML AL L pr wd ln ypr ysz) (hD : D ≤ 8) (hd : d < D) (h1 : ∀ j, ¬ j = d → ln' j = ln j ∧ ypr' j = ypr j)
    (h2 : ln' d = 0 ∧ ypr' d = 0) (h3 : ∀ i, bt pr' i = true ↔ (bt pr i = true ∧ i ≠ d)) : rr_T D ML AL (rl_z L d 0) pr' wd ln' ypr' ysz := by
  obtain ⟨t1, t2, t3, t4, t5, t6⟩ := hT
  obtain ⟨e1, e2⟩ := h2
  refine ⟨t1, fun j hj => ?_, fun j hj => t3 j ((h3 j).mp hj).1, fun j hj => ?_, fun j hj hp => ?_, fun j hj hp => ?_⟩
  · by_cases e : j = d
    · rw [e, rl_zs]; exact ⟨e1, Nat.zero_le _⟩
    · rw [rl_zn e, (h1 j e).1]; exact t2 j hj
  · by_cases e : j = d
    · rw [e]; exact ⟨fun z => absurd rfl ((h3 d).mp z).2, fun z => absurd e2 z⟩
    · rw [h3 j, (h1 j e).2, ← t4 j hj]
      exact ⟨fun z => z.1, fun z => ⟨z, e⟩⟩
  · obtain ⟨z1, z2⟩ := (h3 j).mp hp
    rw [rl_zn z2]
    exact t5 j hj z1
  · by_cases e : j = d
    · rw [e, rl_zs]
    · rw [rl_zn e]
      refine t6 j hj (ab_nt (fun z => ?_))
      have := (h3 j).mpr ⟨z, e⟩
      rw [hp] at this
      exact absurd this (by decide)
theorem rr_12 (hT : rr_T D ML AL L pr wd ln ypr ysz) (hM : ML ≤ 12) : ∀ d, d < 8 → L d ≤ 12 := fun d hd => by
  have := (hT.2.1 d hd).2; omega
theorem rr_12' (hT : rr_T D ML AL L pr wd ln ypr ysz) (hM : ML ≤ 12) : ∀ d, d < 8 → ln d = nI (L d) ∧ L d ≤ 12 := fun d hd => by
  have := hT.2.1 d hd; exact ⟨this.1, by omega⟩
theorem rr_y (hT : rr_T D ML AL L pr wd ln ypr ysz) (hD : D ≤ 8) (hM : ML ≤ 12) : ∀ d, d < D → ¬ ypr d = 0 → ysz d = nI (L d) ∧ L d ≤ 12 := fun d hd hp => by
  have hb := (hT.2.2.2.1 d (by omega)).mpr hp
  have h1 := hT.2.2.2.2.1 d (by omega) hb
  have h2 := (hT.2.1 d (by omega)).2
  exact ⟨h1, by omega⟩
theorem rr_np (hT : rr_T D ML AL L pr wd ln ypr ysz) (hD : D ≤ 8) (hd : d < D) (h : bt pr d = true) : ¬ ypr d = 0 ∧ ysz d = nI (L d) :=
  ⟨(hT.2.2.2.1 d (by omega)).mp h, hT.2.2.2.2.1 d (by omega) h⟩
theorem rr_nf (hT : rr_T D ML AL L pr wd ln ypr ysz) (hD : D ≤ 8) (hd : d < D) (h : bt pr d = false) : ypr d = 0 :=
  Classical.byContradiction (fun z => by
    have := (hT.2.2.2.1 d (by omega)).mpr z
    rw [h] at this
    exact absurd this (by decide))
/-- the postings are the reference's masks -/
theorem rr_gram {gc po : Nat → Int32} {a b c : Nat} (hT : rr_T D ML AL L pr wd ln ypr ysz) (hG : ag_IG D gc po (rl_C L) (rl_f wd)) (hD : D ≤ 8) (hM : ML ≤ 12) (hA : AL ≤ 6) (ha : a < AL) (hb : b < AL) (hc : c < AL)
    {y : Int32} (hy : ∀ i, bt y i = true ↔ (i < D ∧ yg_Q wd ypr L (nI a) (nI b) (nI c) i)) : y = po (a * 36 + b * 6 + c) := by
  have hw := hT.1
  apply ab_eq
  intro i
  rw [hy i]
  constructor
  · intro h
    obtain ⟨hi, hp, q, h1, h2⟩ := h
    refine (hG.2.1 i _ (by omega) (by omega)).mpr (ag_cg_pos.mpr ⟨q, ?_, decide_eq_true h1, ?_⟩)
    · have := rr_12 hT hM i (by omega)
      omega
    · obtain ⟨g0, g1, g2⟩ := h2
      unfold rl_f ad_tri
      have e0 : rl_t wd i q = a := by unfold rl_t; rw [g0, nI_clamp (by omega)]
      have e1 : rl_t wd i (q + 1) = b := by unfold rl_t; rw [← Nat.add_assoc, g1, nI_clamp (by omega)]
      have e2 : rl_t wd i (q + 2) = c := by unfold rl_t; rw [← Nat.add_assoc, g2, nI_clamp (by omega)]
      rw [e0, e1, e2]
  · intro h
    have hi := hG.2.2 _ i (by omega) h
    obtain ⟨q, q1, q2, q3⟩ := ag_cg_pos.mp ((hG.2.1 i _ (by omega) (by omega)).mp h)
    have q2 : q + 2 < L i := of_decide_eq_true q2
    have hp : bt pr i = true := by
      rcases Bool.eq_false_or_eq_true (bt pr i) with z | z
      · exact z
      · have := hT.2.2.2.2.2 i (by omega) z
        omega
    refine ⟨hi, (hT.2.2.2.1 i (by omega)).mp hp, q, q2, ?_⟩
    have l0 := rl_6 hw hA i q
    have l1 := rl_6 hw hA i (q + 1)
    have l2 := rl_6 hw hA i (q + 2)
    unfold rl_f ad_tri at q3
    refine ⟨?_, ?_, ?_⟩
    · rw [rl_e hw hA i q]; exact congrArg nI (by omega)
    · rw [Nat.add_assoc, rl_e hw hA i (q + 1)]; exact congrArg nI (by omega)
    · rw [Nat.add_assoc, rl_e hw hA i (q + 2)]; exact congrArg nI (by omega)
/-- both results of a search are the least start and the greatest end -/
theorem rr_find {A : Nat → Nat → Nat → Prop} {hi : Int32} {h1 h2 yhi yh1 yh2 : Nat → Int32} (hT : rr_T D ML AL L pr wd ln ypr ysz) (hD : D ≤ 8)
    (gx : xq_G A L pr hi h1 h2 D) (gy : yq_G A L ypr yhi yh1 yh2 D) : rr_S D hi h1 h2 yhi yh1 yh2 := by
  intro d hd
  have hp := hT.2.2.2.1 d (by omega)
  have key : bt hi d = true ↔ ¬ yhi d = 0 := by
    rw [gx.1 d]
    rcases gy d hd with g | g
    · exact ⟨fun z => absurd g.1 (hp.mp z.2.1), fun z => absurd g.2 z⟩
    · rcases g.2 with w | w
      · exact ⟨fun z => absurd w.1 z.2.2, fun z => absurd w.2 z⟩
      · obtain ⟨s, e, w1, w2, _⟩ := w
        refine ⟨fun _ => ?_, fun _ => ⟨hd, hp.mpr g.1, fun z => z s e (Nat.zero_le _) w1.2.2.1 w1.2.2.2.1⟩⟩
        rw [w2]; decide
  refine ⟨key, fun hb => ?_⟩
  have hF := ((gx.1 d).mp hb).2
  obtain ⟨s, e, x1, x2, x3⟩ := gx.2 d hd hF
  rcases gy d hd with g | g
  · exact absurd g.2 (key.mp hb)
  · rcases g.2 with w | w
    · exact absurd w.2 (key.mp hb)
    · obtain ⟨s', e', w1, _, w3, w4⟩ := w
      obtain ⟨u1, u2⟩ := sp_uniq x1 w1
      rw [x2, x3, w3, w4, u1, u2]
      exact ⟨rfl, rfl⟩
end
theorem rr_A {AL nc : Nat} {K M ar : Nat → Int32} {x y m : Int32} (h : nd_A AL K M ar nc) (hA : AL ≤ 6) (hb : ¬ nd_bad x y AL) (h1 : x = 1 → m = (1 : Int32) <<< (y &&& 31)) (h2 : x = 2 → m = y) :
    nd_A AL (upd K nc x) (upd M nc m) (upd ar nc y) (nc + 1) := by
  intro i hi
  by_cases e : i = nc
  · rw [e, pk_us, pk_us, pk_us]
    refine ⟨fun z => ?_, fun z => (h2 z).symm, Int32.not_lt.mp (fun z => hb (Or.inl z))⟩
    obtain ⟨a, ha, ey⟩ : ∃ a, a < AL ∧ y = nI a := Classical.byContradiction (fun w => hb (Or.inr (Or.inr (Or.inl ⟨z, w⟩))))
    refine ⟨a, ha, ey, fun c => ?_⟩
    rw [h1 z, ey, ab_one (by omega), decide_eq_true_iff]
  · rw [pk_un e, pk_un e, pk_un e]
    exact h i (by omega)
end
section
/-! ===== start, end ===== -/
section
variable {Xdc Xml Xmn Xal Xpr Xnc Xps Xtp Xsr Xhi : Int32} {Xwd Xln Xgc Xpo Xkd Xmk Xnu Xfi Xla Xfo Xac Xmd Xec Xew Xh1 Xh2 : Nat → Int32} {Xhd Xtl : Nat → Int64}
variable {D d : Nat}
theorem xs_ref_f1 {post : Int32 → Prop} (hD : D ≤ 8) {p : Int32} (hp : ¬ ∃ d, d < D ∧ p = nI d) (k : post (-1)) : wpX_resultRefusal post (nI D, Xml, Xmn, Xal, Xpr, Xnc, Xps, Xtp, Xsr, Xhi, Xwd, Xln, Xgc, Xpo, Xkd, Xmk, Xnu, Xfi, Xla, Xfo, Xac, Xhd, Xtl, Xmd, Xec, Xew, Xh1, Xh2) p := by
  unfold wpX_resultRefusal
  exact xw_isDoc_f hD hp (br_t rfl k)
theorem xs_ref_f2 {post : Int32 → Prop} (hD : D ≤ 8) (hd : d < D) (hs : Xsr = 0) (k : post (-7)) : wpX_resultRefusal post (nI D, Xml, Xmn, Xal, Xpr, Xnc, Xps, Xtp, Xsr, Xhi, Xwd, Xln, Xgc, Xpo, Xkd, Xmk, Xnu, Xfi, Xla, Xfo, Xac, Xhd, Xtl, Xmd, Xec, Xew, Xh1, Xh2) (nI d) := by
  unfold wpX_resultRefusal
  exact xw_isDoc_t hD hd (br_f (by decide) (br_t hs k))
theorem xs_ref_f3 {post : Int32 → Prop} (hD : D ≤ 8) (hd : d < D) (hs : ¬ Xsr = 0) (hb : bt Xhi d = false) (k : post (-8)) : wpX_resultRefusal post (nI D, Xml, Xmn, Xal, Xpr, Xnc, Xps, Xtp, Xsr, Xhi, Xwd, Xln, Xgc, Xpo, Xkd, Xmk, Xnu, Xfi, Xla, Xfo, Xac, Xhd, Xtl, Xmd, Xec, Xew, Xh1, Xh2) (nI d) := by
  unfold wpX_resultRefusal
  exact xw_isDoc_t hD hd (br_f (by decide) (br_f hs (br_t ((ab_t0 _ (by omega)).mpr hb) k)))
theorem xs_ref_t {post : Int32 → Prop} (hD : D ≤ 8) (hd : d < D) (hs : ¬ Xsr = 0) (hb : bt Xhi d = true) (k : post 0) : wpX_resultRefusal post (nI D, Xml, Xmn, Xal, Xpr, Xnc, Xps, Xtp, Xsr, Xhi, Xwd, Xln, Xgc, Xpo, Xkd, Xmk, Xnu, Xfi, Xla, Xfo, Xac, Xhd, Xtl, Xmd, Xec, Xew, Xh1, Xh2) (nI d) := by
  unfold wpX_resultRefusal
  exact xw_isDoc_t hD hd (br_f (by decide) (br_f hs (br_f ((ab_n0 _ (by omega)).mpr hb) k)))
end
theorem zz_cases {D : Nat} (v : Int32) : (¬ ∃ d, d < D ∧ v = nI d) ∨ ∃ d, d < D ∧ v = nI d := (Classical.em _).symm
/-! ===== what is owed ===== -/
/-- the constructor's clamp -/
def rr_cl (p a b : Int32) : Int32 := if a ≤ p then (if p ≤ b then p else b) else a
theorem rr_cl_n (p : Int32) {a b : Nat} (hab : a ≤ b) (hb : b ≤ 100) : ∃ n, a ≤ n ∧ n ≤ b ∧ rr_cl p (nI a) (nI b) = nI n := by
  unfold rr_cl
  by_cases h1 : nI a ≤ p
  · rw [if_pos h1]
    by_cases h2 : p ≤ nI b
    · rw [if_pos h2]
      have h0 : ¬ p < 0 := fun z => nI_pos (n := a) (by omega) (Int32.lt_of_le_of_lt h1 z)
      obtain ⟨n, hn, e⟩ := nI_of h0
      subst e
      rw [nI_leI (by omega) hn] at h1
      rw [nI_leI hn (by omega)] at h2
      exact ⟨n, h1, h2, rfl⟩
    · rw [if_neg h2]
      exact ⟨b, hab, Nat.le_refl _, rfl⟩
  · rw [if_neg h1]
    exact ⟨a, Nat.le_refl _, hab, rfl⟩
theorem rr_xcl {post : Int32 → Prop} {Xdc Xml Xmn Xal Xpr Xnc Xps Xtp Xsr Xhi : Int32} {Xwd Xln Xgc Xpo Xkd Xmk Xnu Xfi Xla Xfo Xac Xmd Xec Xew Xh1 Xh2 : Nat → Int32} {Xhd Xtl : Nat → Int64} {p a b : Int32} (k : post (rr_cl p a b)) : wpX_clamp post (Xdc, Xml, Xmn, Xal, Xpr, Xnc, Xps, Xtp, Xsr, Xhi, Xwd, Xln, Xgc, Xpo, Xkd, Xmk, Xnu, Xfi, Xla, Xfo, Xac, Xhd, Xtl, Xmd, Xec, Xew, Xh1, Xh2) p a b := by
  unfold wpX_clamp
  unfold rr_cl at k
  refine br_c (fun h1 => br_c (fun h2 => ?_) (fun h2 => ?_)) (fun h1 => ?_)
  · rw [if_pos h1, if_pos h2] at k; exact k
  · rw [if_pos h1, if_neg h2] at k; exact k
  · rw [if_neg h1] at k; exact k
theorem rr_ycl {post : Int32 → Prop} {Ydc Yml Ymn Yal Ync Ysr : Int32} {Ypr Ysz Ywd Ykd Yar Yhi Yh1 Yh2 Yrl : Nat → Int32} {p a b : Int32} (k : post (rr_cl p a b)) : wpY_clamp post (Ydc, Yml, Ymn, Yal, Ync, Ysr, Ypr, Ysz, Ywd, Ykd, Yar, Yhi, Yh1, Yh2, Yrl) p a b := by
  unfold wpY_clamp
  unfold rr_cl at k
  refine br_c (fun h1 => br_c (fun h2 => ?_) (fun h2 => ?_)) (fun h1 => ?_)
  · rw [if_pos h1, if_pos h2] at k; exact k
  · rw [if_pos h1, if_neg h2] at k; exact k
  · rw [if_neg h1] at k; exact k
theorem rr_0 {D ML MN AL : Nat} (hD : D ≤ 8) (hM : ML ≤ 12) (hN : MN ≤ 24) (h2 : 2 ≤ AL) (hA : AL ≤ 6) :
    rr_R D ML MN AL 0 0 0 (fun _ => 0) 0 0 (fun _ => 0) (fun _ => 0) (fun _ => 0) (fun _ => 0) (fun _ => 0) (fun _ => 0) (fun _ => 0) (fun _ => 0) (fun _ => 0) (fun _ => 0) (fun _ => 0) (fun _ => 0) (fun _ => 0) (fun _ => 0) (fun _ => 0) (fun _ => 0) (fun _ => 0) (fun _ => 0) (fun _ => 0) := by
  have hc : ∀ d g, ag_cg (rl_C (fun _ => 0) d) (rl_f (fun _ => 0) d) g 12 = 0 := by
    intro d g
    rcases Nat.eq_zero_or_pos (ag_cg (rl_C (fun _ => 0) d) (rl_f (fun _ => 0) d) g 12) with z | z
    · exact z
    · obtain ⟨j, _, hj, _⟩ := ag_cg_pos.mp z
      have hj : j + 2 < 0 := of_decide_eq_true hj
      omega
  refine ⟨⟨hD, hM, hN, hA⟩, ⟨fun j => ⟨0, by omega, rfl⟩, fun d _ => ⟨rfl, Nat.zero_le _⟩, fun d h => absurd h ab_zz, fun d _ => ⟨fun h => absurd h ab_zz, fun h => absurd rfl h⟩, fun d _ h => absurd h ab_zz, fun _ _ _ => rfl⟩, ⟨fun d g _ _ => ?_, fun d g _ _ => ?_, fun g i _ h => absurd h ab_zz⟩, ⟨⟨by omega, Nat.le_refl _, rfl, by omega, au_0 (fun c p h => ab_zz h), fun _ _ => rfl⟩, fun i h => absurd h (by omega), fun i h => absurd h (by omega)⟩, fun d _ => ⟨⟨fun h => absurd h ab_zz, fun h => absurd rfl h⟩, fun h => absurd h ab_zz⟩⟩
  · rw [hc]; rfl
  · rw [hc]; exact ⟨fun h => absurd h ab_zz, fun h => absurd h (by omega)⟩
theorem i_vc0 (k0 : Int32) (k1 : Int32) (k2 : Int32) (k3 : Int32) : wpX_init (fun u => wpY_init (fun v => i_Rel 4 u v) k0 k1 k2 k3) k0 k1 k2 k3 := by
  obtain ⟨D, d1, d2, d3⟩ := rr_cl_n k0 (a := 2) (b := 8) (by omega) (by omega)
  obtain ⟨ML, l1, l2, l3⟩ := rr_cl_n k1 (a := 4) (b := 12) (by omega) (by omega)
  obtain ⟨MN, m1, m2, m3⟩ := rr_cl_n k2 (a := 4) (b := 24) (by omega) (by omega)
  obtain ⟨AL, a1, a2, a3⟩ := rr_cl_n k3 (a := 2) (b := 6) (by omega) (by omega)
  have d3 : rr_cl k0 2 8 = nI D := d3
  have l3 : rr_cl k1 4 12 = nI ML := l3
  have m3 : rr_cl k2 4 24 = nI MN := m3
  have a3 : rr_cl k3 2 6 = nI AL := a3
  unfold wpX_init
  refine rr_xcl ?_
  rw [d3]
  refine rr_xcl ?_
  rw [l3]
  refine rr_xcl ?_
  rw [m3]
  refine rr_xcl ?_
  rw [a3]
  unfold wpY_init
  refine rr_ycl ?_
  rw [d3]
  refine rr_ycl ?_
  rw [l3]
  refine rr_ycl ?_
  rw [m3]
  refine rr_ycl ?_
  rw [a3]
  exact zz_in (nc := 0) (ps := 0) (tp := 0) (L := fun _ => 0) (rr_0 d2 l2 m2 a1 a2)
theorem i_vc_open {k : Nat} {u : SX} {v : SY} (I : i_Rel k u v) (hk : k + 4 ≤ 2052) (v1 : Int32) : wpX_open (fun r u' => wpY_open (fun r' v' => r' = r ∧ i_Rel (k + 4) u' v') v v1) u v1 := by
  refine zz_el (P := fun u v => wpX_open (fun r u' => wpY_open (fun r' v' => r' = r ∧ i_Rel (k + 4) u' v') v v1) u v1) I ?_
  intro D ML MN AL nc ps tp L Xpr Xsr Xhi Xwd Xln Xgc Xpo Xkd Xmk Xnu Xfi Xla Xfo Xac Xhd Xtl Xmd Xec Xew Xh1 Xh2 Ypr Ysz Yar Yhi Yh1 Yh2 Yrl hR
  have hR0 := hR
  obtain ⟨⟨hD, hM, hN, hA⟩, hT, hG, hNN, hS⟩ := hR
  rcases zz_cases (D := D) v1 with h | h
  · exact xw_open_f hD h (yw_open_f hD h ⟨rfl, zz_in hR0⟩)
  · obtain ⟨d, hd, e⟩ := h
    subst e
    refine xw_open_t (L := L) hD hd (rr_12 hT hM d (by omega)) (hT.2.1 d (by omega)).1 hT.1 hA hG (fun gc po hG' => yw_open_t hD hd ⟨rfl, zz_in (L := rl_z L d 0) ⟨⟨hD, hM, hN, hA⟩, ?_, hG', hNN, hS⟩⟩)
    exact rr_Tset hT hD hd (by omega) hT.1 (fun j hj => ⟨pk_un hj, pk_un hj, pk_un hj⟩) ⟨pk_us, by rw [pk_us]; decide, pk_us⟩ (fun i => ab_set (by omega) _ _)
theorem i_vc_append {k : Nat} {u : SX} {v : SY} (I : i_Rel k u v) (hk : k + 4 ≤ 2052) (v1 : Int32) (v2 : Int32) : wpX_append (fun r u' => wpY_append (fun r' v' => r' = r ∧ i_Rel (k + 4) u' v') v v1 v2) u v1 v2 := by
  refine zz_el (P := fun u v => wpX_append (fun r u' => wpY_append (fun r' v' => r' = r ∧ i_Rel (k + 4) u' v') v v1 v2) u v1 v2) I ?_
  intro D ML MN AL nc ps tp L Xpr Xsr Xhi Xwd Xln Xgc Xpo Xkd Xmk Xnu Xfi Xla Xfo Xac Xhd Xtl Xmd Xec Xew Xh1 Xh2 Ypr Ysz Yar Yhi Yh1 Yh2 Yrl hR
  have hR0 := hR
  obtain ⟨⟨hD, hM, hN, hA⟩, hT, hG, hNN, hS⟩ := hR
  rcases zz_cases (D := D) v1 with h | h
  · exact xw_append_f1 hD h (yw_append_f1 hD h ⟨rfl, zz_in hR0⟩)
  · obtain ⟨d, hd, e⟩ := h
    subst e
    rcases zz_cases (D := AL) v2 with h | h
    · exact xw_append_f2 hD hd hA h (yw_append_f2 hD hd hA h ⟨rfl, zz_in hR0⟩)
    · obtain ⟨c, hc, e⟩ := h
      subst e
      obtain ⟨l1, l2⟩ := hT.2.1 d (by omega)
      rcases Bool.eq_false_or_eq_true (bt Xpr d) with hp | hp
      · obtain ⟨y1, y2⟩ := rr_np hT hD hd hp
        rcases Nat.lt_or_ge (L d) ML with hl | hl
        · refine xw_append_t (L := L) hD hd hA hc hp hM hl (rr_12 hT hM) l1 hT.1 hG (fun gc po hG' => yw_append_t hD hd hA hc y1 hM hl y2 ⟨rfl, zz_in (L := rl_z L d (L d + 1)) ⟨⟨hD, hM, hN, hA⟩, ?_, hG', hNN, hS⟩⟩)
          exact rr_Tset hT hD hd (by omega) (rl_Wu hT.1 hc _) (fun j hj => ⟨pk_un hj, rfl, pk_un hj⟩) ⟨pk_us, y1, pk_us⟩ (fun i => ⟨Or.inl, fun z => z.elim id (fun w => w ▸ hp)⟩)
        · exact xw_append_f4 (L := L) hD hd hA hc hp hM hl (by omega) l1 (yw_append_f4 hD hd hA hc y1 hM hl (by omega) y2 ⟨rfl, zz_in hR0⟩)
      · exact xw_append_f3 hD hd hA hc hp (yw_append_f3 hD hd hA hc (rr_nf hT hD hd hp) ⟨rfl, zz_in hR0⟩)
theorem i_vc_change {k : Nat} {u : SX} {v : SY} (I : i_Rel k u v) (hk : k + 4 ≤ 2052) (v1 : Int32) (v2 : Int32) (v3 : Int32) : wpX_change (fun r u' => wpY_change (fun r' v' => r' = r ∧ i_Rel (k + 4) u' v') v v1 v2 v3) u v1 v2 v3 := by
  refine zz_el (P := fun u v => wpX_change (fun r u' => wpY_change (fun r' v' => r' = r ∧ i_Rel (k + 4) u' v') v v1 v2 v3) u v1 v2 v3) I ?_
  intro D ML MN AL nc ps tp L Xpr Xsr Xhi Xwd Xln Xgc Xpo Xkd Xmk Xnu Xfi Xla Xfo Xac Xhd Xtl Xmd Xec Xew Xh1 Xh2 Ypr Ysz Yar Yhi Yh1 Yh2 Yrl hR
  have hR0 := hR
  obtain ⟨⟨hD, hM, hN, hA⟩, hT, hG, hNN, hS⟩ := hR
  rcases zz_cases (D := D) v1 with h | h
  · exact xw_change_f1 hD h (yw_change_f1 hD h ⟨rfl, zz_in hR0⟩)
  · obtain ⟨d, hd, e⟩ := h
    subst e
    rcases zz_cases (D := AL) v3 with h | h
    · exact xw_change_f2 hD hd hA h (yw_change_f2 hD hd hA h ⟨rfl, zz_in hR0⟩)
    · obtain ⟨c, hc, e⟩ := h
      subst e
      obtain ⟨l1, l2⟩ := hT.2.1 d (by omega)
      rcases Bool.eq_false_or_eq_true (bt Xpr d) with hp | hp
      · obtain ⟨y1, y2⟩ := rr_np hT hD hd hp
        rcases zz_cases (D := L d) v2 with h | h
        · exact xw_change_f4 (L := L) hD hd hA hc hp (by omega) l1 h (yw_change_f4 hD hd hA hc y1 (by omega) y2 h ⟨rfl, zz_in hR0⟩)
        · obtain ⟨p, hpl, e⟩ := h
          subst e
          refine xw_change_t (L := L) hD hd hA hc hp (rr_12 hT hM) l1 hT.1 hG hpl (fun gc po hG' => yw_change_t hD hd hA hc y1 (by omega) y2 hT.1 hpl ⟨rfl, zz_in (L := L) ⟨⟨hD, hM, hN, hA⟩, ⟨rl_Wu hT.1 hc _, hT.2⟩, hG', hNN, hS⟩⟩)
      · exact xw_change_f3 hD hd hA hc hp (yw_change_f3 hD hd hA hc (rr_nf hT hD hd hp) ⟨rfl, zz_in hR0⟩)
theorem i_vc_copy {k : Nat} {u : SX} {v : SY} (I : i_Rel k u v) (hk : k + 4 ≤ 2052) (v1 : Int32) (v2 : Int32) : wpX_copy (fun r u' => wpY_copy (fun r' v' => r' = r ∧ i_Rel (k + 4) u' v') v v1 v2) u v1 v2 := by
  refine zz_el (P := fun u v => wpX_copy (fun r u' => wpY_copy (fun r' v' => r' = r ∧ i_Rel (k + 4) u' v') v v1 v2) u v1 v2) I ?_
  intro D ML MN AL nc ps tp L Xpr Xsr Xhi Xwd Xln Xgc Xpo Xkd Xmk Xnu Xfi Xla Xfo Xac Xhd Xtl Xmd Xec Xew Xh1 Xh2 Ypr Ysz Yar Yhi Yh1 Yh2 Yrl hR
  have hR0 := hR
  obtain ⟨⟨hD, hM, hN, hA⟩, hT, hG, hNN, hS⟩ := hR
  rcases zz_cases (D := D) v1 with h | h
  · exact xw_copy_f1 hD h (yw_copy_f1 hD h ⟨rfl, zz_in hR0⟩)
  · obtain ⟨a, ha, e⟩ := h
    subst e
    rcases zz_cases (D := D) v2 with h | h
    · exact xw_copy_f2 hD ha h (yw_copy_f2 hD ha h ⟨rfl, zz_in hR0⟩)
    · obtain ⟨b, hb, e⟩ := h
      subst e
      obtain ⟨l1, l2⟩ := hT.2.1 a (by omega)
      rcases Bool.eq_false_or_eq_true (bt Xpr a) with hp | hp
      · obtain ⟨y1, y2⟩ := rr_np hT hD ha hp
        by_cases hab : a = b
        · subst hab
          refine xw_copy_s hD ha hp (yw_copy_t hD ha ha y1 (by omega) y2 ⟨l1.symm, ?_⟩)
          rw [rl_cp_id]
          refine zz_in (L := L) ⟨⟨hD, hM, hN, hA⟩, ?_, hG, hNN, hS⟩
          have := rr_Tset (m := L a) (ypr' := upd Ypr a 1) (ysz' := upd Ysz a (nI (L a))) (ln' := Xln) (pr' := Xpr) hT hD ha (by omega) hT.1 (fun j hj => ⟨rfl, pk_un hj, pk_un hj⟩) ⟨l1, by rw [pk_us]; decide, pk_us⟩ (fun i => ⟨Or.inl, fun z => z.elim id (fun w => w ▸ hp)⟩)
          rw [rl_zid] at this
          exact this
        · refine xw_copy_t (L := L) hD ha hb hab hA hp (rr_12 hT hM) (fun d hd => (hT.2.1 d hd).1) hT.1 hG (fun gc po hG' => yw_copy_t hD ha hb y1 (by omega) y2 ⟨rfl, zz_in (L := rl_z L b (L a)) ⟨⟨hD, hM, hN, hA⟩, ?_, hG', hNN, hS⟩⟩)
          exact rr_Tset hT hD hb (by omega) (rl_cp_W hT.1 _) (fun j hj => ⟨pk_un hj, pk_un hj, pk_un hj⟩) ⟨pk_us, by rw [pk_us]; decide, pk_us⟩ (fun i => ab_set (by omega) _ _)
      · exact xw_copy_f3 hD ha hb hp (yw_copy_f3 hD ha hb (rr_nf hT hD ha hp) ⟨rfl, zz_in hR0⟩)
theorem i_vc_erase {k : Nat} {u : SX} {v : SY} (I : i_Rel k u v) (hk : k + 4 ≤ 2052) (v1 : Int32) : wpX_erase (fun r u' => wpY_erase (fun r' v' => r' = r ∧ i_Rel (k + 4) u' v') v v1) u v1 := by
  refine zz_el (P := fun u v => wpX_erase (fun r u' => wpY_erase (fun r' v' => r' = r ∧ i_Rel (k + 4) u' v') v v1) u v1) I ?_
  intro D ML MN AL nc ps tp L Xpr Xsr Xhi Xwd Xln Xgc Xpo Xkd Xmk Xnu Xfi Xla Xfo Xac Xhd Xtl Xmd Xec Xew Xh1 Xh2 Ypr Ysz Yar Yhi Yh1 Yh2 Yrl hR
  have hR0 := hR
  obtain ⟨⟨hD, hM, hN, hA⟩, hT, hG, hNN, hS⟩ := hR
  rcases zz_cases (D := D) v1 with h | h
  · exact xw_erase_f1 hD h (yw_erase_f1 hD h ⟨rfl, zz_in hR0⟩)
  · obtain ⟨d, hd, e⟩ := h
    subst e
    obtain ⟨l1, l2⟩ := hT.2.1 d (by omega)
    rcases Bool.eq_false_or_eq_true (bt Xpr d) with hp | hp
    · obtain ⟨y1, y2⟩ := rr_np hT hD hd hp
      refine xw_erase_t (L := L) hD hd hp (by omega) l1 hT.1 hA hG (fun gc po hG' => yw_erase_t hD hd y1 (by omega) y2 ⟨rfl, zz_in (L := rl_z L d 0) ⟨⟨hD, hM, hN, hA⟩, ?_, hG', hNN, hS⟩⟩)
      exact rr_Tclr hT hD hd (fun j hj => ⟨pk_un hj, pk_un hj⟩) ⟨pk_us, pk_us⟩ (fun i => ab_clr (by omega) _ _)
    · exact xw_erase_f2 hD hd hp (yw_erase_f2 hD hd (rr_nf hT hD hd hp) ⟨rfl, zz_in hR0⟩)
theorem i_vc_length {k : Nat} {u : SX} {v : SY} (I : i_Rel k u v) (hk : k + 4 ≤ 2052) (v1 : Int32) : wpX_length (fun r => wpY_length (fun r' => r' = r ∧ i_Rel (k + 4) u v) v v1) u v1 := by
  refine zz_el (P := fun u v => wpX_length (fun r => wpY_length (fun r' => r' = r ∧ i_Rel (k + 4) u v) v v1) u v1) I ?_
  intro D ML MN AL nc ps tp L Xpr Xsr Xhi Xwd Xln Xgc Xpo Xkd Xmk Xnu Xfi Xla Xfo Xac Xhd Xtl Xmd Xec Xew Xh1 Xh2 Ypr Ysz Yar Yhi Yh1 Yh2 Yrl hR
  have hR0 := hR
  obtain ⟨⟨hD, hM, hN, hA⟩, hT, hG, hNN, hS⟩ := hR
  rcases zz_cases (D := D) v1 with h | h
  · exact xw_length_f1 hD h (yw_length_f1 hD h ⟨rfl, zz_in hR0⟩)
  · obtain ⟨d, hd, e⟩ := h
    subst e
    obtain ⟨l1, l2⟩ := hT.2.1 d (by omega)
    rcases Bool.eq_false_or_eq_true (bt Xpr d) with hp | hp
    · obtain ⟨y1, y2⟩ := rr_np hT hD hd hp
      exact xw_length_t hD hd hp (yw_length_t hD hd y1 ⟨y2.trans l1.symm, zz_in hR0⟩)
    · exact xw_length_f2 hD hd hp (yw_length_f2 hD hd (rr_nf hT hD hd hp) ⟨rfl, zz_in hR0⟩)
theorem i_vc_letterAt {k : Nat} {u : SX} {v : SY} (I : i_Rel k u v) (hk : k + 4 ≤ 2052) (v1 : Int32) (v2 : Int32) : wpX_letterAt (fun r => wpY_letterAt (fun r' => r' = r ∧ i_Rel (k + 4) u v) v v1 v2) u v1 v2 := by
  refine zz_el (P := fun u v => wpX_letterAt (fun r => wpY_letterAt (fun r' => r' = r ∧ i_Rel (k + 4) u v) v v1 v2) u v1 v2) I ?_
  intro D ML MN AL nc ps tp L Xpr Xsr Xhi Xwd Xln Xgc Xpo Xkd Xmk Xnu Xfi Xla Xfo Xac Xhd Xtl Xmd Xec Xew Xh1 Xh2 Ypr Ysz Yar Yhi Yh1 Yh2 Yrl hR
  have hR0 := hR
  obtain ⟨⟨hD, hM, hN, hA⟩, hT, hG, hNN, hS⟩ := hR
  rcases zz_cases (D := D) v1 with h | h
  · exact xw_letterAt_f1 hD h (yw_letterAt_f1 hD h ⟨rfl, zz_in hR0⟩)
  · obtain ⟨d, hd, e⟩ := h
    subst e
    obtain ⟨l1, l2⟩ := hT.2.1 d (by omega)
    rcases Bool.eq_false_or_eq_true (bt Xpr d) with hp | hp
    · obtain ⟨y1, y2⟩ := rr_np hT hD hd hp
      rcases zz_cases (D := L d) v2 with h | h
      · exact xw_letterAt_f3 (L := L) hD hd hp (by omega) l1 h (yw_letterAt_f3 hD hd y1 (by omega) y2 h ⟨rfl, zz_in hR0⟩)
      · obtain ⟨p, hpl, e⟩ := h
        subst e
        exact xw_letterAt_t (L := L) hD hd hp (by omega) l1 hpl (yw_letterAt_t hD hd y1 (by omega) y2 hpl ⟨rfl, zz_in hR0⟩)
    · exact xw_letterAt_f2 hD hd hp (yw_letterAt_f2 hD hd (rr_nf hT hD hd hp) ⟨rfl, zz_in hR0⟩)
theorem i_vc_gram {k : Nat} {u : SX} {v : SY} (I : i_Rel k u v) (hk : k + 4 ≤ 2052) (v1 : Int32) (v2 : Int32) (v3 : Int32) : wpX_gram (fun r => wpY_gram (fun r' => r' = r ∧ i_Rel (k + 4) u v) v v1 v2 v3) u v1 v2 v3 := by
  refine zz_el (P := fun u v => wpX_gram (fun r => wpY_gram (fun r' => r' = r ∧ i_Rel (k + 4) u v) v v1 v2 v3) u v1 v2 v3) I ?_
  intro D ML MN AL nc ps tp L Xpr Xsr Xhi Xwd Xln Xgc Xpo Xkd Xmk Xnu Xfi Xla Xfo Xac Xhd Xtl Xmd Xec Xew Xh1 Xh2 Ypr Ysz Yar Yhi Yh1 Yh2 Yrl hR
  have hR0 := hR
  obtain ⟨⟨hD, hM, hN, hA⟩, hT, hG, hNN, hS⟩ := hR
  rcases zz_cases (D := AL) v1 with h | h
  · exact xw_gram_f1 hA h (yw_gram_f1 hA h ⟨rfl, zz_in hR0⟩)
  · obtain ⟨a, ha, e⟩ := h
    subst e
    rcases zz_cases (D := AL) v2 with h | h
    · exact xw_gram_f2 hA ha h (yw_gram_f2 hA ha h ⟨rfl, zz_in hR0⟩)
    · obtain ⟨b, hb, e⟩ := h
      subst e
      rcases zz_cases (D := AL) v3 with h | h
      · exact xw_gram_f3 hA ha hb h (yw_gram_f3 hA ha hb h ⟨rfl, zz_in hR0⟩)
      · obtain ⟨c, hc, e⟩ := h
        subst e
        exact xw_gram_t hA ha hb hc (yw_gram_t (S := L) hA ha hb hc hD (rr_y hT hD hM) (fun y hy => ⟨rr_gram hT hG hD hM hA ha hb hc hy, zz_in hR0⟩))
theorem i_vc_node {k : Nat} {u : SX} {v : SY} (I : i_Rel k u v) (hk : k + 4 ≤ 2052) (v1 : Int32) (v2 : Int32) : wpX_node (fun r u' => wpY_node (fun r' v' => r' = r ∧ i_Rel (k + 4) u' v') v v1 v2) u v1 v2 := by
  refine zz_el (P := fun u v => wpX_node (fun r u' => wpY_node (fun r' v' => r' = r ∧ i_Rel (k + 4) u' v') v v1 v2) u v1 v2) I ?_
  intro D ML MN AL nc ps tp L Xpr Xsr Xhi Xwd Xln Xgc Xpo Xkd Xmk Xnu Xfi Xla Xfo Xac Xhd Xtl Xmd Xec Xew Xh1 Xh2 Ypr Ysz Yar Yhi Yh1 Yh2 Yrl hR
  have hR0 := hR
  obtain ⟨⟨hD, hM, hN, hA⟩, hT, hG, ⟨hn, hV, hAr⟩, hS⟩ := hR
  have n1 := hn.1
  have n3 := hn.2.2.1
  have n4 := hn.2.2.2.1
  by_cases hb : nd_bad v1 v2 AL
  · exact xn_bad hA hb (yn_bad hA hb ⟨rfl, zz_in hR0⟩)
  · by_cases hf : nc < MN
    · have ok : (¬ 2 < v1 → tp < 8) → (2 < v1 → ¬ 4 < v1 → 2 ≤ tp) → (4 < v1 → 1 ≤ tp) → wpX_node (fun r u' => wpY_node (fun r' v' => r' = r ∧ i_Rel (k + 4) u' v') (nI D, nI ML, nI MN, nI AL, nI nc, Xsr, Ypr, Ysz, Xwd, Xkd, Yar, Yhi, Yh1, Yh2, Yrl) v1 v2) (nI D, nI ML, nI MN, nI AL, Xpr, nI nc, nI ps, nI tp, Xsr, Xhi, Xwd, Xln, Xgc, Xpo, Xkd, Xmk, Xnu, Xfi, Xla, Xfo, Xac, Xhd, Xtl, Xmd, Xec, Xew, Xh1, Xh2) v1 v2 := by
        intro hl hb2 hu
        refine xn_ok hA hN hn hb hf hl hb2 hu (fun m nu fi la fo ac ps' m1 m2 hn' => ?_)
        refine yn_ok hA hb hN hf hV (by rw [n3]; exact hl) (by rw [n3]; exact hb2) (by rw [n3]; exact hu) ⟨rfl, zz_in (L := L) ⟨⟨hD, hM, hN, hA⟩, hT, hG, ⟨hn', ?_, rr_A hAr hA hb m1 m2⟩, hS⟩⟩
        exact nd_Vup hV (by rw [n3]; exact hl) (by rw [n3]; exact hb2) (by rw [n3]; exact hu)
      by_cases h2 : 2 < v1
      · by_cases h4 : 4 < v1
        · rcases Nat.lt_or_ge tp 1 with z | z
          · exact xn_short1 hA hb hN hf h4 z (yn_short1 hA hb hN hf hV h4 (by omega) ⟨rfl, zz_in hR0⟩)
          · exact ok (fun w => absurd h2 w) (fun _ w => absurd h4 w) (fun _ => z)
        · rcases Nat.lt_or_ge tp 2 with z | z
          · exact xn_short2 hA hb hN hf h2 h4 z (yn_short2 hA hb hN hf hV h2 h4 (by omega) ⟨rfl, zz_in hR0⟩)
          · exact ok (fun w => absurd h2 w) (fun _ _ => z) (fun w => absurd w h4)
      · rcases Nat.lt_or_ge tp 8 with z | z
        · exact ok (fun _ => z) (fun w => absurd w h2) (fun w => absurd (nd_2lt w) h2)
        · exact xn_deep hA hb hN hf h2 z n4 (yn_deep hA hb hN hf hV h2 (by omega) ⟨rfl, zz_in hR0⟩)
    · exact xn_full hA hb hN n1 hf (yn_full hA hb hN n1 hf ⟨rfl, zz_in hR0⟩)
theorem i_vc_reset {k : Nat} {u : SX} {v : SY} (I : i_Rel k u v) (hk : k + 4 ≤ 2052) : wpX_reset (fun r u' => wpY_reset (fun r' v' => r' = r ∧ i_Rel (k + 4) u' v') v) u := by
  refine zz_el (P := fun u v => wpX_reset (fun r u' => wpY_reset (fun r' v' => r' = r ∧ i_Rel (k + 4) u' v') v) u) I ?_
  intro D ML MN AL nc ps tp L Xpr Xsr Xhi Xwd Xln Xgc Xpo Xkd Xmk Xnu Xfi Xla Xfo Xac Xhd Xtl Xmd Xec Xew Xh1 Xh2 Ypr Ysz Yar Yhi Yh1 Yh2 Yrl hR
  obtain ⟨⟨hD, hM, hN, hA⟩, hT, hG, ⟨hn, hV, hAr⟩, hS⟩ := hR
  refine xn_reset (fun ac h1 h2 => ?_)
  have hac : ∀ c, ac c = 0 := by
    intro c
    rcases Nat.lt_or_ge c 6 with z | z
    · exact h1 c z
    · rw [h2 c z]; exact hn.2.2.2.2.2 c z
  unfold wpY_reset
  refine ⟨rfl, zz_in (nc := 0) (ps := 0) (tp := 0) (L := L) ⟨⟨hD, hM, hN, hA⟩, hT, hG, ⟨⟨by omega, Nat.le_refl _, rfl, by omega, au_0 ?_, fun c _ => hac c⟩, fun i h => absurd h (by omega), fun i h => absurd h (by omega)⟩, hS⟩⟩
  intro c p h
  unfold au_ac at h
  rw [hac c] at h
  exact ab_zz h
theorem i_vc_nodes {k : Nat} {u : SX} {v : SY} (I : i_Rel k u v) (hk : k + 4 ≤ 2052) : wpX_nodes (fun r => wpY_nodes (fun r' => r' = r ∧ i_Rel (k + 4) u v) v) u := by
  refine zz_el (P := fun u v => wpX_nodes (fun r => wpY_nodes (fun r' => r' = r ∧ i_Rel (k + 4) u v) v) u) I ?_
  intro D ML MN AL nc ps tp L Xpr Xsr Xhi Xwd Xln Xgc Xpo Xkd Xmk Xnu Xfi Xla Xfo Xac Xhd Xtl Xmd Xec Xew Xh1 Xh2 Ypr Ysz Yar Yhi Yh1 Yh2 Yrl hR
  unfold wpX_nodes wpY_nodes
  exact ⟨rfl, zz_in hR⟩
theorem i_vc_depth {k : Nat} {u : SX} {v : SY} (I : i_Rel k u v) (hk : k + 4 ≤ 2052) : wpX_depth (fun r => wpY_depth (fun r' => r' = r ∧ i_Rel (k + 4) u v) v) u := by
  refine zz_el (P := fun u v => wpX_depth (fun r => wpY_depth (fun r' => r' = r ∧ i_Rel (k + 4) u v) v) u) I ?_
  intro D ML MN AL nc ps tp L Xpr Xsr Xhi Xwd Xln Xgc Xpo Xkd Xmk Xnu Xfi Xla Xfo Xac Xhd Xtl Xmd Xec Xew Xh1 Xh2 Ypr Ysz Yar Yhi Yh1 Yh2 Yrl hR
  have hR0 := hR
  obtain ⟨⟨hD, hM, hN, hA⟩, hT, hG, ⟨hn, hV, hAr⟩, hS⟩ := hR
  unfold wpX_depth
  exact yn_depth hn.1 hV ⟨by rw [hn.2.2.1], zz_in hR0⟩
theorem i_vc_search {k : Nat} {u : SX} {v : SY} (I : i_Rel k u v) (hk : k + 4 ≤ 2052) : wpX_search (fun r u' => wpY_search (fun r' v' => r' = r ∧ i_Rel (k + 4) u' v') v) u := by
  refine zz_el (P := fun u v => wpX_search (fun r u' => wpY_search (fun r' v' => r' = r ∧ i_Rel (k + 4) u' v') v) u) I ?_
  intro D ML MN AL nc ps tp L Xpr Xsr Xhi Xwd Xln Xgc Xpo Xkd Xmk Xnu Xfi Xla Xfo Xac Xhd Xtl Xmd Xec Xew Xh1 Xh2 Ypr Ysz Yar Yhi Yh1 Yh2 Yrl hR
  have hR0 := hR
  obtain ⟨⟨hD, hM, hN, hA⟩, hT, hG, ⟨hn, hV, hAr⟩, hS⟩ := hR
  by_cases ht : tp = 1
  · subst ht
    refine xs_search_t (L := L) hD (rr_12' hT hM) hT.1 hA hT.2.2.1 hG hn hV (fun hd tl md ec ew hi h1 h2 gx => ?_)
    refine yq_search_t (L := L) (M := Xmk) hD hn.1 hV hAr hT.1 hA hn.2.2.1 (rr_y hT hD hM) (fun yhi yh1 yh2 rel gy => ?_)
    have hS' := rr_find hT hD gx gy
    refine ⟨?_, zz_in (tp := 1) (L := L) ⟨⟨hD, hM, hN, hA⟩, hT, hG, ⟨hn, hV, hAr⟩, hS'⟩⟩
    rw [sb_sc (fun i hi => (hS' i hi).1)]
  · exact xs_search_f hn.2.2.2.1 ht (yq_search_f hn.1 hV (by rw [hn.2.2.1]; exact hn.2.2.2.1) (by rw [hn.2.2.1]; exact ht) ⟨rfl, zz_in hR0⟩)
theorem i_vc_start {k : Nat} {u : SX} {v : SY} (I : i_Rel k u v) (hk : k + 4 ≤ 2052) (v1 : Int32) : wpX_start (fun r => wpY_start (fun r' => r' = r ∧ i_Rel (k + 4) u v) v v1) u v1 := by
  refine zz_el (P := fun u v => wpX_start (fun r => wpY_start (fun r' => r' = r ∧ i_Rel (k + 4) u v) v v1) u v1) I ?_
  intro D ML MN AL nc ps tp L Xpr Xsr Xhi Xwd Xln Xgc Xpo Xkd Xmk Xnu Xfi Xla Xfo Xac Xhd Xtl Xmd Xec Xew Xh1 Xh2 Ypr Ysz Yar Yhi Yh1 Yh2 Yrl hR
  have hR0 := hR
  obtain ⟨⟨hD, hM, hN, hA⟩, hT, hG, hNN, hS⟩ := hR
  unfold wpX_start wpY_start
  rcases zz_cases (D := D) v1 with h | h
  · exact xs_ref_f1 hD h (br_f (by decide) (yw_noSlot_f hD h (br_f (by decide) ⟨rfl, zz_in hR0⟩)))
  · obtain ⟨d, hd, e⟩ := h
    subst e
    have v8 : vp_in (nI d) 8 := vp_in_nI (by omega) (by omega)
    have ic : (nI d).toNatClampNeg = d := nI_clamp (by omega)
    obtain ⟨s1, s2⟩ := hS d hd
    by_cases hs : Xsr = 0
    · exact xs_ref_f2 hD hd hs (br_f (by decide) (yw_noSlot_t hD hd (br_t rfl (br_t hs ⟨rfl, zz_in hR0⟩))))
    · rcases Bool.eq_false_or_eq_true (bt Xhi d) with hb | hb
      · refine xs_ref_t hD hd hs hb (br_t (by decide) ⟨v8, yw_noSlot_t hD hd (br_t rfl (br_f hs ⟨v8, br_f ?_ ⟨v8, ?_, zz_in hR0⟩⟩))⟩)
        · rw [ic]; exact s1.mp hb
        · rw [ic]; exact (s2 hb).1.symm
      · refine xs_ref_f3 hD hd hs hb (br_f (by decide) (yw_noSlot_t hD hd (br_t rfl (br_f hs ⟨v8, br_t ?_ ⟨rfl, zz_in hR0⟩⟩))))
        rw [ic]
        exact Classical.byContradiction (fun z => absurd (hb.symm.trans (s1.mpr z)) (by decide))
theorem i_vc_end {k : Nat} {u : SX} {v : SY} (I : i_Rel k u v) (hk : k + 4 ≤ 2052) (v1 : Int32) : wpX_end (fun r => wpY_end (fun r' => r' = r ∧ i_Rel (k + 4) u v) v v1) u v1 := by
  refine zz_el (P := fun u v => wpX_end (fun r => wpY_end (fun r' => r' = r ∧ i_Rel (k + 4) u v) v v1) u v1) I ?_
  intro D ML MN AL nc ps tp L Xpr Xsr Xhi Xwd Xln Xgc Xpo Xkd Xmk Xnu Xfi Xla Xfo Xac Xhd Xtl Xmd Xec Xew Xh1 Xh2 Ypr Ysz Yar Yhi Yh1 Yh2 Yrl hR
  have hR0 := hR
  obtain ⟨⟨hD, hM, hN, hA⟩, hT, hG, hNN, hS⟩ := hR
  unfold wpX_end wpY_end
  rcases zz_cases (D := D) v1 with h | h
  · exact xs_ref_f1 hD h (br_f (by decide) (yw_noSlot_f hD h (br_f (by decide) ⟨rfl, zz_in hR0⟩)))
  · obtain ⟨d, hd, e⟩ := h
    subst e
    have v8 : vp_in (nI d) 8 := vp_in_nI (by omega) (by omega)
    have ic : (nI d).toNatClampNeg = d := nI_clamp (by omega)
    obtain ⟨s1, s2⟩ := hS d hd
    by_cases hs : Xsr = 0
    · exact xs_ref_f2 hD hd hs (br_f (by decide) (yw_noSlot_t hD hd (br_t rfl (br_t hs ⟨rfl, zz_in hR0⟩))))
    · rcases Bool.eq_false_or_eq_true (bt Xhi d) with hb | hb
      · refine xs_ref_t hD hd hs hb (br_t (by decide) ⟨v8, yw_noSlot_t hD hd (br_t rfl (br_f hs ⟨v8, br_f ?_ ⟨v8, ?_, zz_in hR0⟩⟩))⟩)
        · rw [ic]; exact s1.mp hb
        · rw [ic]; exact (s2 hb).2.symm
      · refine xs_ref_f3 hD hd hs hb (br_f (by decide) (yw_noSlot_t hD hd (br_t rfl (br_f hs ⟨v8, br_t ?_ ⟨rfl, zz_in hR0⟩⟩))))
        rw [ic]
        exact Classical.byContradiction (fun z => absurd (hb.symm.trans (s1.mpr z)) (by decide))
theorem i_vc_whole {k : Nat} {u : SX} {v : SY} (I : i_Rel k u v) (hk : k + 4 ≤ 2052) (v1 : Int32) : wpX_whole (fun r => wpY_whole (fun r' v' => r' = r ∧ i_Rel (k + 4) u v') v v1) u v1 := by
  refine zz_el (P := fun u v => wpX_whole (fun r => wpY_whole (fun r' v' => r' = r ∧ i_Rel (k + 4) u v') v v1) u v1) I ?_
  intro D ML MN AL nc ps tp L Xpr Xsr Xhi Xwd Xln Xgc Xpo Xkd Xmk Xnu Xfi Xla Xfo Xac Xhd Xtl Xmd Xec Xew Xh1 Xh2 Ypr Ysz Yar Yhi Yh1 Yh2 Yrl hR
  have hR0 := hR
  obtain ⟨⟨hD, hM, hN, hA⟩, hT, hG, ⟨hn, hV, hAr⟩, hS⟩ := hR
  rcases zz_cases (D := D) v1 with h | h
  · exact xs_whole_f1 hD h (ye_whole_f1 hD h ⟨rfl, zz_in hR0⟩)
  · obtain ⟨d, hd, e⟩ := h
    subst e
    obtain ⟨l1, l2⟩ := hT.2.1 d (by omega)
    rcases Bool.eq_false_or_eq_true (bt Xpr d) with hp | hp
    · obtain ⟨y1, y2⟩ := rr_np hT hD hd hp
      by_cases ht : tp = 1
      · subst ht
        refine xs_whole_t (L := L) hD hd hp ⟨l1, by omega⟩ hT.1 hA hn (fun r r1 r2 => ?_)
        refine ye_whole_t (M := Xmk) hD hn.1 hV hAr hd y1 (by omega) y2 hT.1 hA hn.2.2.1 (fun rel r' q1 q2 => ⟨?_, zz_in (tp := 1) hR0⟩)
        by_cases hz : aa_stk (rl_t Xwd d) Xkd Xmk nc 0 0 (L d)
        · rw [r1 hz, q1 hz]
        · rw [r2 hz, q2 hz]
      · exact xs_whole_f3 hD hd hp hn.2.2.2.1 ht (ye_whole_f3 hD hn.1 hV hd y1 (by omega) y2 (by rw [hn.2.2.1]; exact hn.2.2.2.1) (by rw [hn.2.2.1]; exact ht) ⟨rfl, zz_in hR0⟩)
    · exact xs_whole_f2 hD hd hp (ye_whole_f2 hD hd (rr_nf hT hD hd hp) ⟨rfl, zz_in hR0⟩)
end
