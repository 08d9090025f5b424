section
/-! pure rows to paste: stores, nI and lN arithmetic, masks, shifts, narrowing, branches by naturals (pk_le, pk_lt, pk_eq), loops (lp1 .. lp16: the measure of the state; rp1 ..: recursion), negatives. Take what you need -/
theorem pk_us {f : Nat → Int32} {k : Nat} {x : Int32} : upd f k x k = x := if_pos rfl
theorem pk_un {f : Nat → Int32} {k j : Nat} {x : Int32} (h : j ≠ k) : upd f k x j = f j := if_neg h
theorem pk_uLs {f : Nat → Int64} {k : Nat} {x : Int64} : vp_updL f k x k = x := if_pos rfl
theorem pk_uLn {f : Nat → Int64} {k j : Nat} {x : Int64} (h : j ≠ k) : vp_updL f k x j = f j := if_neg h
theorem pk_sub {a b : Nat} (h : b ≤ a) : nI a - nI b = nI (a - b) := by
  obtain ⟨c, rfl⟩ : ∃ c, a = c + b := ⟨a - b, by omega⟩
  rw [← nI_add, Int32.add_sub_cancel, Nat.add_sub_cancel]
theorem pk_m1 (n : Nat) : nI (n + 1) + (-1) = nI n := by
  rw [← nI_1, Int32.add_assoc, show (1 : Int32) + (-1) = 0 from rfl, Int32.add_zero]
theorem pk_mul (a b : Nat) : nI a * nI b = nI (a * b) := (Int32.ofNat_mul a b).symm
theorem pk_div {a d : Nat} (ha : a < 2 ^ 31) (h0 : 0 < d) (hd : d < 2 ^ 31) : nI a / nI d = nI (a / d) := by
  apply Int32.toInt_inj.mp
  rw [lg_idiv_nonneg (by rw [nI_toInt ha]; omega) (by rw [nI_toInt hd]; omega), nI_toInt ha, nI_toInt hd, nI_toInt (Nat.lt_of_le_of_lt (Nat.div_le_self a d) ha)]
  first | rfl | exact (Int.natCast_ediv _ _).symm
theorem pk_rem {a d : Nat} (ha : a < 2 ^ 31) (h0 : 0 < d) (hd : d < 2 ^ 31) : nI a - nI a / nI d * nI d = nI (a % d) := by
  rw [pk_div ha h0 hd, pk_mul, pk_sub (Nat.div_mul_le_self a d)]
  exact congrArg nI (by have := Nat.div_add_mod' a d; omega)
theorem pk_sub_toInt {a b : Nat} (ha : a < 2 ^ 30) (hb : b < 2 ^ 30) : (nI a - nI b).toInt = (a : Int) - b := by
  rw [Int32.toInt_sub, nI_toInt (by omega), nI_toInt (by omega)]
  exact Int.bmod_eq_of_le (by omega) (by omega)
theorem pk_sneg {a b : Nat} (hb : b < 2 ^ 30) (h : a < b) : nI a - nI b < 0 := by
  rw [Int32.lt_iff_toInt_lt, pk_sub_toInt (by omega) hb, show (0 : Int32).toInt = 0 from by decide]
  omega
theorem pk_ix (x : Int32) {n : Nat} (hn : n < 2 ^ 31) : x < 0 ∨ nI n ≤ x ∨ ∃ j : Nat, j < n ∧ x = nI j := by
  by_cases h : x < 0
  · exact Or.inl h
  · obtain ⟨j, hj, rfl⟩ := nI_of h
    by_cases h2 : j < n
    · exact Or.inr (Or.inr ⟨j, h2, rfl⟩)
    · exact Or.inr (Or.inl (nI_le (by omega) hj))
theorem pk_le {x y : Int32} {A B : Prop} (a b : Nat) (f : a ≤ b → A) (g : b < a → B) (hx : x = nI a := by rfl) (hy : y = nI b := by rfl) (ha : a < 2 ^ 31 := by omega) (hb : b < 2 ^ 31 := by omega) : (x ≤ y → A) ∧ (¬ x ≤ y → B) := by
  subst hx hy
  rw [nI_leI ha hb]
  exact ⟨f, fun z => g (by omega)⟩
theorem pk_lt {x y : Int32} {A B : Prop} (a b : Nat) (f : a < b → A) (g : b ≤ a → B) (hx : x = nI a := by rfl) (hy : y = nI b := by rfl) (ha : a < 2 ^ 31 := by omega) (hb : b < 2 ^ 31 := by omega) : (x < y → A) ∧ (¬ x < y → B) := by
  subst hx hy
  rw [nI_ltI ha hb]
  exact ⟨f, fun z => g (by omega)⟩
theorem pk_eq {x y : Int32} {A B : Prop} (a b : Nat) (f : a = b → A) (g : a ≠ b → B) (hx : x = nI a := by rfl) (hy : y = nI b := by rfl) (ha : a < 2 ^ 31 := by omega) (hb : b < 2 ^ 31 := by omega) : (x = y → A) ∧ (¬ x = y → B) := by
  subst hx hy
  rw [nI_eq ha hb]
  exact ⟨f, g⟩
theorem pk_in {x : Int32} (n N : Nat) (h : n < N) (hx : x = nI n := by rfl) (hN : N < 2 ^ 31 := by omega) : vp_in x N := by
  subst hx
  exact vp_in_nI h hN
theorem pk_cl {x : Int32} (n : Nat) (hx : x = nI n := by rfl) (h : n < 2 ^ 31 := by omega) : x.toNatClampNeg = n := by
  subst hx
  exact nI_clamp h
theorem pk_tn {n : Nat} (h : n < 2 ^ 32) : (nI n).toBitVec.toNat = n := Nat.mod_eq_of_lt h
theorem pk_and (x : Int32) {m : Int32} (k : Nat) (hm : m.toBitVec.toNat = 2 ^ k - 1) : x &&& m = nI (x.toBitVec.toNat % 2 ^ k) := by
  apply Int32.toBitVec_inj.mp
  apply BitVec.eq_of_toNat_eq
  rw [Int32.toBitVec_and, BitVec.toNat_and, hm, Nat.and_two_pow_sub_one_eq_mod]
  show _ = (BitVec.ofNat 32 _).toNat
  rw [BitVec.toNat_ofNat]
  exact (Nat.mod_eq_of_lt (Nat.lt_of_le_of_lt (Nat.mod_le _ _) x.toBitVec.isLt)).symm
theorem pk_andN {n : Nat} (h : n < 2 ^ 32) {m : Int32} (k : Nat) (hm : m.toBitVec.toNat = 2 ^ k - 1) : nI n &&& m = nI (n % 2 ^ k) := by
  rw [pk_and _ k hm, pk_tn h]
theorem pk_andE (x : Int32) {m : Int32} (k : Nat) (hm : m.toBitVec.toNat = 2 ^ k - 1) : ∃ j : Nat, j < 2 ^ k ∧ x &&& m = nI j := ⟨_, Nat.mod_lt _ (Nat.two_pow_pos k), pk_and x k hm⟩
theorem pk_andIn (x : Int32) {m : Int32} (k : Nat) (hm : m.toBitVec.toNat = 2 ^ k - 1) (hk : k ≤ 30) : vp_in (x &&& m) (2 ^ k) := by
  obtain ⟨j, hj, e⟩ := pk_andE x k hm
  rw [e]
  exact vp_in_nI hj (Nat.lt_of_le_of_lt (Nat.pow_le_pow_right (by decide) hk) (by decide))
theorem pk_shl (a s : Int32) (k : Nat) (hs : (s.toBitVec.smod 32).toNat = k) : (a <<< s).toBitVec.toNat = a.toBitVec.toNat * 2 ^ k % 2 ^ 32 := by
  show (a.toBitVec <<< (s.toBitVec.smod 32).toNat).toNat = _
  rw [hs, BitVec.toNat_shiftLeft, Nat.shiftLeft_eq]
theorem pk_shlN {n : Nat} (s : Int32) (k : Nat) (hs : (s.toBitVec.smod 32).toNat = k) (h : n * 2 ^ k < 2 ^ 32) : nI n <<< s = nI (n * 2 ^ k) := by
  apply Int32.toBitVec_inj.mp
  apply BitVec.eq_of_toNat_eq
  have hn : n < 2 ^ 32 := Nat.lt_of_le_of_lt (Nat.le_mul_of_pos_right n (Nat.two_pow_pos k)) h
  rw [pk_shl _ _ k hs, pk_tn hn, pk_tn h, Nat.mod_eq_of_lt h]
theorem pk_shr (a s : Int32) (k : Nat) (hs : (s.toBitVec.smod 32).toNat = k) : (a >>> s).toInt = a.toInt >>> k := by
  show (a.toBitVec.sshiftRight (s.toBitVec.smod 32).toNat).toInt = _
  rw [hs, BitVec.toInt_sshiftRight]
  rfl
theorem pk_shrN {n : Nat} (h : n < 2 ^ 31) (s : Int32) (k : Nat) (hs : (s.toBitVec.smod 32).toNat = k) : nI n >>> s = nI (n / 2 ^ k) := by
  apply Int32.toInt_inj.mp
  have h2 : n / 2 ^ k ≤ n := Nat.div_le_self _ _
  rw [pk_shr _ _ k hs, nI_toInt h, nI_toInt (by omega), Int.shiftRight_eq_div_pow]
  rfl
theorem pk_least (P : Nat → Prop) (h : ∃ k, P k) : ∃ k, P k ∧ ∀ j, j < k → ¬ P j := by
  obtain ⟨k, hk⟩ := h
  induction k using Nat.strongRecOn with
  | ind k ih =>
    by_cases e : ∃ j, j < k ∧ P j
    · obtain ⟨j, hj, pj⟩ := e
      exact ih j hj pj
    · exact ⟨k, hk, fun j hj pj => e ⟨j, hj, pj⟩⟩
/-! ===== Int32 by its bits: bt x i ===== -/
def bt (x : Int32) (i : Nat) : Bool := x.toBitVec.getLsbD i
theorem b_ext {x y : Int32} (h : ∀ i, i < 32 → bt x i = bt y i) : x = y := Int32.toBitVec_inj.mp (BitVec.eq_of_getLsbD_eq (fun i hi => h i hi))
theorem b_or (x y : Int32) (i : Nat) : bt (x ||| y) i = (bt x i || bt y i) := by unfold bt; rw [Int32.toBitVec_or, BitVec.getLsbD_or]
theorem b_and (x y : Int32) (i : Nat) : bt (x &&& y) i = (bt x i && bt y i) := by unfold bt; rw [Int32.toBitVec_and, BitVec.getLsbD_and]
theorem b_xor (x y : Int32) (i : Nat) : bt (x ^^^ y) i = (bt x i ^^ bt y i) := by unfold bt; rw [Int32.toBitVec_xor, BitVec.getLsbD_xor]
theorem b_big {x : Int32} {i : Nat} (h : 32 ≤ i) : bt x i = false := BitVec.getLsbD_of_ge _ _ h
theorem b_255 (i : Nat) : bt 255 i = decide (i < 8) := by
  rcases Nat.lt_or_ge i 32 with h | h
  · exact (by decide +kernel : ∀ i, i < 32 → bt 255 i = decide (i < 8)) i h
  · rw [b_big h, decide_eq_false (by omega)]
theorem b_65535 (i : Nat) : bt 65535 i = decide (i < 16) := by
  rcases Nat.lt_or_ge i 32 with h | h
  · exact (by decide +kernel : ∀ i, i < 32 → bt 65535 i = decide (i < 16)) i h
  · rw [b_big h, decide_eq_false (by omega)]
theorem b_m1 : ∀ i, i < 32 → bt (-1) i = true := by decide +kernel
theorem b_0 (i : Nat) : bt 0 i = false := BitVec.getLsbD_zero
theorem s_l : ∀ n, n < 32 → ((nI n &&& 31).toBitVec.smod 32).toNat = n := by decide +kernel
theorem s_u : ∀ n, n < 32 → (((nI n).toUInt32 &&& Int32.toUInt32 31).toBitVec % 32).toNat = n := by decide +kernel
theorem b_shl (n : Nat) (hn : n < 32) (x : Int32) {i : Nat} (hi : i < 32) : bt (x <<< (nI n &&& 31)) i = (decide (n ≤ i) && bt x (i - n)) := by
  unfold bt
  rw [Int32.toBitVec_shiftLeft]
  show (x.toBitVec <<< ((nI n &&& 31).toBitVec.smod 32).toNat).getLsbD i = _
  rw [s_l n hn, BitVec.getLsbD_shiftLeft]
  rcases Nat.lt_or_ge i n with h | h
  · simp [h, Nat.not_le.mpr h]
  · simp [hi, h, Nat.not_lt.mpr h]
theorem b_ushr (n : Nat) (hn : n < 32) (x : Int32) (i : Nat) : bt ((x.toUInt32 >>> ((nI n).toUInt32 &&& Int32.toUInt32 31)).toInt32) i = bt x (n + i) := by
  show (x.toUInt32 >>> ((nI n).toUInt32 &&& Int32.toUInt32 31)).toBitVec.getLsbD i = x.toUInt32.toBitVec.getLsbD (n + i)
  rw [UInt32.toBitVec_shiftRight]
  show (x.toUInt32.toBitVec >>> (((nI n).toUInt32 &&& Int32.toUInt32 31).toBitVec % 32).toNat).getLsbD i = _
  rw [s_u n hn, BitVec.getLsbD_ushiftRight]
theorem b_sshr (n : Nat) (hn : n < 32) (x : Int32) {i : Nat} (hi : i < 32) : bt (x >>> (nI n &&& 31)) i = if n + i < 32 then bt x (n + i) else bt x 31 := by
  unfold bt
  rw [Int32.toBitVec_shiftRight]
  show (x.toBitVec.sshiftRight ((nI n &&& 31).toBitVec.smod 32).toNat).getLsbD i = _
  rw [s_l n hn, BitVec.getLsbD_sshiftRight, BitVec.msb_eq_getLsbD_last]
  simp [hi]
theorem b_shl8 (x : Int32) {i : Nat} (hi : i < 32) : bt (x <<< ((8 : Int32) &&& 31)) i = (decide (8 ≤ i) && bt x (i - 8)) := b_shl 8 (by omega) x hi
theorem b_shl16 (x : Int32) {i : Nat} (hi : i < 32) : bt (x <<< ((16 : Int32) &&& 31)) i = (decide (16 ≤ i) && bt x (i - 16)) := b_shl 16 (by omega) x hi
theorem b_shl24 (x : Int32) {i : Nat} (hi : i < 32) : bt (x <<< ((24 : Int32) &&& 31)) i = (decide (24 ≤ i) && bt x (i - 24)) := b_shl 24 (by omega) x hi
theorem b_sshr8 (x : Int32) {i : Nat} (hi : i < 32) : bt (x >>> ((8 : Int32) &&& 31)) i = if 8 + i < 32 then bt x (8 + i) else bt x 31 := b_sshr 8 (by omega) x hi
/-! ===== nI under and, xor, >>>, one bit, 65535 ===== -/
theorem nx_and (a b : Nat) : nI a &&& nI b = nI (a &&& b) := by
  apply Int32.toBitVec_inj.1
  show BitVec.ofNat 32 a &&& BitVec.ofNat 32 b = BitVec.ofNat 32 (a &&& b)
  apply BitVec.eq_of_getLsbD_eq
  intro i hi
  simp [hi]
theorem nx_xor (a b : Nat) : nI a ^^^ nI b = nI (a ^^^ b) := by
  apply Int32.toBitVec_inj.1
  show BitVec.ofNat 32 a ^^^ BitVec.ofNat 32 b = BitVec.ofNat 32 (a ^^^ b)
  apply BitVec.eq_of_getLsbD_eq
  intro i hi
  simp [hi]
/-! ===== lN n to 2^64: shifts, and, or, masks, one bit ===== -/
theorem wb_tb (n : Nat) : (lN n).toBitVec = BitVec.ofNat 64 n := rfl
theorem wb_inj {a b : Int64} (h : a.toBitVec = b.toBitVec) : a = b := Int64.toBitVec_inj.mp h
theorem wb_tn {n : Nat} (h : n < 2 ^ 64) : (lN n).toBitVec.toNat = n := by rw [wb_tb, BitVec.toNat_ofNat, Nat.mod_eq_of_lt h]
theorem wb_of (x : Int64) : ∃ n, n < 2 ^ 64 ∧ x = lN n := ⟨x.toBitVec.toNat, x.toBitVec.isLt, wb_inj (by rw [wb_tb]; simp)⟩
theorem wb_of32 (x : Int32) : ∃ n, n < 2 ^ 32 ∧ x = nI n := ⟨x.toBitVec.toNat, x.toBitVec.isLt, Int32.toBitVec_inj.mp (by show _ = BitVec.ofNat 32 _; simp)⟩
theorem wb_c : ∀ k, k < 64 → ((nI k).toInt64 &&& 63) = lN k := by decide +kernel
theorem wb_cu : ∀ k, k < 64 → ((nI k).toInt64.toUInt64 &&& Int64.toUInt64 63) = UInt64.ofNat k := by decide +kernel
theorem wb_sm : ∀ k, k < 64 → (BitVec.ofNat 64 k).smod 64 = BitVec.ofNat 64 k := by decide +kernel
theorem wb_pw {a b : Nat} (h : a ≤ b) : 2 ^ b = 2 ^ a * 2 ^ (b - a) := by rw [← Nat.pow_add]; congr 1; omega
theorem wb_lt2 {a b : Nat} (h : a < b) : 2 ^ a < 2 ^ b := Nat.pow_lt_pow_right (by decide) h
theorem wb_mod (n : Nat) : lN n = lN (n % 2 ^ 64) := wb_inj (by rw [wb_tb, wb_tb]; apply BitVec.eq_of_toNat_eq; rw [BitVec.toNat_ofNat, BitVec.toNat_ofNat, Nat.mod_mod])
theorem wb_shr {n k : Nat} (hn : n < 2 ^ 64) (hk : k < 64) : ((lN n).toUInt64 >>> ((nI k).toInt64.toUInt64 &&& Int64.toUInt64 63)).toInt64 = lN (n / 2 ^ k) := by
  rw [wb_cu k hk]
  apply wb_inj
  apply BitVec.eq_of_toNat_eq
  show ((lN n).toUInt64 >>> UInt64.ofNat k).toNat = (BitVec.ofNat 64 _).toNat
  have h1 : (UInt64.ofNat k).toNat = k := by
    show (BitVec.ofNat 64 k).toNat = k
    rw [BitVec.toNat_ofNat, Nat.mod_eq_of_lt (by omega)]
  have h2 : (lN n).toUInt64.toNat = n := wb_tn hn
  rw [UInt64.toNat_shiftRight, h1, h2, Nat.mod_eq_of_lt hk, Nat.shiftRight_eq_div_pow, BitVec.toNat_ofNat, Nat.mod_eq_of_lt (Nat.lt_of_le_of_lt (Nat.div_le_self _ _) hn)]
theorem wb_shl (n : Nat) {k : Nat} (hk : k < 64) : lN n <<< ((nI k).toInt64 &&& 63) = lN (n * 2 ^ k) := by
  rw [wb_c k hk]
  apply wb_inj
  rw [Int64.toBitVec_shiftLeft, wb_tb, wb_tb, wb_tb, wb_sm k hk]
  apply BitVec.eq_of_toNat_eq
  rw [BitVec.shiftLeft_eq', BitVec.toNat_shiftLeft, BitVec.toNat_ofNat, BitVec.toNat_ofNat, BitVec.toNat_ofNat, Nat.mod_eq_of_lt (show k < 2 ^ 64 by omega), Nat.shiftLeft_eq, Nat.mul_mod, Nat.mod_mod, ← Nat.mul_mod]
theorem wb_and {a b : Nat} (ha : a < 2 ^ 64) (hb : b < 2 ^ 64) : lN a &&& lN b = lN (a &&& b) := by
  apply wb_inj
  rw [Int64.toBitVec_and, wb_tb, wb_tb, wb_tb]
  apply BitVec.eq_of_toNat_eq
  rw [BitVec.toNat_and, BitVec.toNat_ofNat, BitVec.toNat_ofNat, BitVec.toNat_ofNat, Nat.mod_eq_of_lt ha, Nat.mod_eq_of_lt hb, Nat.mod_eq_of_lt (Nat.and_lt_two_pow _ hb)]
theorem wb_or {a b : Nat} (ha : a < 2 ^ 64) (hb : b < 2 ^ 64) : lN a ||| lN b = lN (a ||| b) := by
  apply wb_inj
  rw [Int64.toBitVec_or, wb_tb, wb_tb, wb_tb]
  apply BitVec.eq_of_toNat_eq
  rw [BitVec.toNat_or, BitVec.toNat_ofNat, BitVec.toNat_ofNat, BitVec.toNat_ofNat, Nat.mod_eq_of_lt ha, Nat.mod_eq_of_lt hb, Nat.mod_eq_of_lt (Nat.or_lt_two_pow ha hb)]
end
section
/-! sums over naturals, the residual cut, the price of a side -/
def mf_sm (f : Nat → Int) : Nat → Int
  | 0 => 0
  | n + 1 => mf_sm f n + f n
theorem mf_sm_c {f g : Nat → Int} : ∀ n, (∀ i, i < n → f i = g i) → mf_sm f n = mf_sm g n
  | 0, _ => rfl
  | n + 1, h => by
    show mf_sm f n + f n = mf_sm g n + g n
    rw [mf_sm_c n (fun i hi => h i (by omega)), h n (by omega)]
theorem mf_sm_le {f g : Nat → Int} : ∀ n, (∀ i, i < n → f i ≤ g i) → mf_sm f n ≤ mf_sm g n
  | 0, _ => Int.le_refl _
  | n + 1, h => by
    have a := mf_sm_le n (fun i hi => h i (by omega))
    have b := h n (by omega)
    show mf_sm f n + f n ≤ mf_sm g n + g n
    omega
theorem mf_sm_0 : ∀ n, mf_sm (fun _ => 0) n = 0
  | 0 => rfl
  | n + 1 => by
    show mf_sm (fun _ => 0) n + 0 = 0
    rw [mf_sm_0 n, Int.add_zero]
theorem mf_sm_a {f g : Nat → Int} : ∀ n, mf_sm (fun i => f i + g i) n = mf_sm f n + mf_sm g n
  | 0 => rfl
  | n + 1 => by
    show mf_sm (fun i => f i + g i) n + (f n + g n) = (mf_sm f n + f n) + (mf_sm g n + g n)
    rw [mf_sm_a n]
    omega
theorem mf_sm_u {f g : Nat → Int} {k : Nat} : ∀ n, k < n → (∀ i, i < n → i ≠ k → g i = f i) → mf_sm g n = mf_sm f n + (g k - f k)
  | 0, h, _ => absurd h (Nat.not_lt_zero _)
  | n + 1, h, e => by
    show mf_sm g n + g n = mf_sm f n + f n + (g k - f k)
    by_cases hk : k = n
    · rw [mf_sm_c n (fun i hi => e i (by omega) (by omega))]
      subst hk
      omega
    · rw [mf_sm_u n (by omega) (fun i hi hne => e i (by omega) hne), e n (by omega) (fun z => hk z.symm)]
      omega
theorem mf_sm_n {f : Nat → Int} : ∀ n, (∀ i, i < n → 0 ≤ f i) → 0 ≤ mf_sm f n := by
  intro n h
  have a := mf_sm_le (f := fun _ => 0) (g := f) n h
  rw [mf_sm_0] at a
  exact a
/-- one place is at most the sum -/
theorem mf_sm_1 {f : Nat → Int} {k : Nat} : ∀ n, k < n → (∀ i, i < n → 0 ≤ f i) → f k ≤ mf_sm f n
  | 0, h, _ => absurd h (Nat.not_lt_zero _)
  | n + 1, h, e => by
    show f k ≤ mf_sm f n + f n
    have a := e n (by omega)
    by_cases hk : k = n
    · have b := mf_sm_n (f := f) n (fun i hi => e i (by omega))
      subst hk
      omega
    · have b := mf_sm_1 (f := f) (k := k) n (by omega) (fun i hi => e i (by omega))
      omega
theorem mf_sm_b {f : Nat → Int} {c : Int} : ∀ n, (∀ i, i < n → f i ≤ c) → mf_sm f n ≤ n * c
  | 0, _ => by
    show (0 : Int) ≤ ((0 : Nat) : Int) * c
    rw [Int.natCast_zero, Int.zero_mul]
    exact Int.le_refl _
  | n + 1, h => by
    have a := mf_sm_b (f := f) (c := c) n (fun i hi => h i (by omega))
    have b := h n (by omega)
    show mf_sm f n + f n ≤ ((n + 1 : Nat) : Int) * c
    rw [Int.natCast_add, Int.add_mul]
    show mf_sm f n + f n ≤ (n : Int) * c + 1 * c
    omega
def mf_g (L : Nat → Int32) (S : Nat → Bool) (a b : Nat) : Int := if (S a && !S b) = true then (L (a * 9 + b)).toInt else 0
def mf_cut (L : Nat → Int32) (S : Nat → Bool) : Int := mf_sm (fun a => mf_sm (fun b => mf_g L S a b) 9) 9
theorem mf_cut_u {L : Nat → Int32} {S : Nat → Bool} {a b : Nat} {y : Int32} (ha : a < 9) (hb : b < 9) :
    mf_cut (upd L (a * 9 + b) y) S = mf_cut L S + (if (S a && !S b) = true then y.toInt - (L (a * 9 + b)).toInt else 0) := by
  have h1 : ∀ i, i < 9 → i ≠ a → mf_sm (fun j => mf_g (upd L (a * 9 + b) y) S i j) 9 = mf_sm (fun j => mf_g L S i j) 9 := by
    intro i hi hne
    apply mf_sm_c
    intro j hj
    unfold mf_g
    rw [pk_un (show i * 9 + j ≠ a * 9 + b by omega)]
  have h2 : mf_sm (fun j => mf_g (upd L (a * 9 + b) y) S a j) 9 = mf_sm (fun j => mf_g L S a j) 9 + (mf_g (upd L (a * 9 + b) y) S a b - mf_g L S a b) := by
    apply mf_sm_u (f := fun j => mf_g L S a j) (g := fun j => mf_g (upd L (a * 9 + b) y) S a j) 9 hb
    intro j hj hne
    unfold mf_g
    rw [pk_un (show a * 9 + j ≠ a * 9 + b by omega)]
  have h3 := mf_sm_u (f := fun i => mf_sm (fun j => mf_g L S i j) 9) (g := fun i => mf_sm (fun j => mf_g (upd L (a * 9 + b) y) S i j) 9) (k := a) 9 ha h1
  have h4 : mf_g (upd L (a * 9 + b) y) S a b - mf_g L S a b = if (S a && !S b) = true then y.toInt - (L (a * 9 + b)).toInt else 0 := by
    unfold mf_g
    rw [pk_us]
    by_cases h : (S a && !S b) = true
    · simp only [if_pos h]
    · simp only [if_neg h, Int.sub_self]
  unfold mf_cut
  rw [h3, h2, h4]
  omega
def mf_pr (qS qT : Nat → Int) (c : Nat → Nat → Int) (S : Nat → Bool) : Int :=
  mf_sm (fun v => (if S v = true then qT v else qS v) + mf_sm (fun u => if S u = S v then 0 else c u v) v) 7
theorem mf_pr_c {qS qT : Nat → Int} {c : Nat → Nat → Int} {S S' : Nat → Bool} (h : ∀ v, v < 7 → S v = S' v) : mf_pr qS qT c S = mf_pr qS qT c S' := by
  unfold mf_pr
  apply mf_sm_c
  intro v hv
  rw [h v hv]
  congr 1
  apply mf_sm_c
  intro u hu
  rw [h u (by omega)]
theorem mf_tri {g : Nat → Nat → Int} (hd : ∀ i, g i i = 0) : ∀ n, mf_sm (fun a => mf_sm (fun b => g a b) n) n = mf_sm (fun v => mf_sm (fun u => g u v + g v u) v) n
  | 0 => rfl
  | n + 1 => by
    have e1 : mf_sm (fun a => mf_sm (fun b => g a b) (n + 1)) (n + 1) = mf_sm (fun a => mf_sm (fun b => g a b) n + g a n) n + (mf_sm (fun b => g n b) n + g n n) := rfl
    rw [e1, mf_sm_a (f := fun a => mf_sm (fun b => g a b) n) (g := fun a => g a n), mf_tri hd n]
    show _ = mf_sm (fun v => mf_sm (fun u => g u v + g v u) v) n + mf_sm (fun u => g u n + g n u) n
    rw [mf_sm_a (f := fun u => g u n) (g := fun u => g n u), hd n]
    omega
theorem mf_cut_pr {L : Nat → Int32} {S : Nat → Bool} {qS qT : Nat → Int} {c : Nat → Nat → Int} (h7 : S 7 = true) (h8 : S 8 = false)
    (hc : ∀ u v, u < 7 → v < 7 → (L (u * 9 + v)).toInt = c u v) (hsym : ∀ u v, u < 7 → v < 7 → c u v = c v u)
    (hs : ∀ u, u < 7 → (L (63 + u)).toInt = qS u) (ht : ∀ u, u < 7 → (L (u * 9 + 8)).toInt = qT u) (h71 : (L 71).toInt = 0) :
    mf_cut L S = mf_pr qS qT c S := by
  have c9 : mf_cut L S = mf_sm (fun a => mf_sm (fun b => mf_g L S a b) 7 + mf_g L S a 7 + mf_g L S a 8) 7 + (mf_sm (fun b => mf_g L S 7 b) 7 + mf_g L S 7 7 + mf_g L S 7 8) + mf_sm (fun b => mf_g L S 8 b) 9 := rfl
  have r8 : mf_sm (fun b => mf_g L S 8 b) 9 = 0 := by
    rw [mf_sm_c (g := fun _ => 0) 9, mf_sm_0]
    intro i hi
    simp [mf_g, h8]
  have e7 : ∀ a, mf_g L S a 7 = 0 := fun a => by simp [mf_g, h7]
  have e78 : mf_g L S 7 8 = 0 := by
    unfold mf_g
    rw [show 7 * 9 + 8 = 71 from rfl, h71]
    exact ite_self _
  have rA : mf_sm (fun a => mf_sm (fun b => mf_g L S a b) 7 + mf_g L S a 7 + mf_g L S a 8) 7 = mf_sm (fun a => mf_sm (fun b => mf_g L S a b) 7) 7 + mf_sm (fun a => if S a = true then qT a else 0) 7 := by
    rw [← mf_sm_a]
    apply mf_sm_c
    intro a ha
    rw [e7 a]
    have e8 : mf_g L S a 8 = if S a = true then qT a else 0 := by
      unfold mf_g
      rw [ht a ha, h8]
      simp
    rw [e8]
    omega
  have r7 : mf_sm (fun b => mf_g L S 7 b) 7 = mf_sm (fun b => if S b = true then 0 else qS b) 7 := by
    apply mf_sm_c
    intro b hb
    unfold mf_g
    rw [show 7 * 9 + b = 63 + b from rfl, hs b hb, h7]
    cases S b <;> rfl
  have rt : mf_sm (fun a => mf_sm (fun b => mf_g L S a b) 7) 7 = mf_sm (fun v => mf_sm (fun u => if S u = S v then 0 else c u v) v) 7 := by
    rw [mf_tri (g := fun a b => mf_g L S a b)]
    · apply mf_sm_c
      intro v hv
      apply mf_sm_c
      intro u hu
      show mf_g L S u v + mf_g L S v u = _
      unfold mf_g
      rw [hc u v (by omega) hv, hc v u hv (by omega), hsym v u hv (by omega)]
      cases S u <;> cases S v <;> simp
    · intro i
      show mf_g L S i i = 0
      unfold mf_g
      cases S i <;> rfl
  rw [c9, r8, rA, r7, rt, e78, e7 7]
  unfold mf_pr
  rw [mf_sm_a (f := fun v => if S v = true then qT v else qS v) (g := fun v => mf_sm (fun u => if S u = S v then 0 else c u v) v)]
  have es : mf_sm (fun v => if S v = true then qT v else qS v) 7 = mf_sm (fun a => if S a = true then qT a else 0) 7 + mf_sm (fun b => if S b = true then 0 else qS b) 7 := by
    rw [← mf_sm_a]
    apply mf_sm_c
    intro v hv
    cases S v <;> simp
  rw [es]
  omega
/-! zero cuts are the closed sets -/
def mf_NN (L : Nat → Int32) : Prop := ∀ a b, a < 9 → b < 9 → 0 ≤ (L (a * 9 + b)).toInt
def mf_Cl (L : Nat → Int32) (S : Nat → Bool) : Prop := ∀ a b, a < 9 → b < 9 → S a = true → 0 < (L (a * 9 + b)).toInt → S b = true
theorem mf_g_n {L : Nat → Int32} {S : Nat → Bool} (h : mf_NN L) {a b : Nat} (ha : a < 9) (hb : b < 9) : 0 ≤ mf_g L S a b := by
  unfold mf_g
  split
  · exact h a b ha hb
  · exact Int.le_refl _
theorem mf_cut_n {L : Nat → Int32} {S : Nat → Bool} (h : mf_NN L) : 0 ≤ mf_cut L S :=
  mf_sm_n 9 (fun _ ha => mf_sm_n 9 (fun _ hb => mf_g_n h ha hb))
theorem mf_cut_0 {L : Nat → Int32} {S : Nat → Bool} (h : mf_NN L) : mf_cut L S = 0 ↔ mf_Cl L S := by
  constructor
  · intro h0 a b ha hb hs hl
    have h1 : mf_g L S a b ≤ mf_sm (fun b => mf_g L S a b) 9 := mf_sm_1 (f := fun b => mf_g L S a b) 9 hb (fun _ hb => mf_g_n h ha hb)
    have h2 : mf_sm (fun b => mf_g L S a b) 9 ≤ mf_cut L S := mf_sm_1 (f := fun a => mf_sm (fun b => mf_g L S a b) 9) 9 ha (fun _ ha => mf_sm_n 9 (fun _ hb => mf_g_n h ha hb))
    cases hb' : S b with
    | true => rfl
    | false =>
      have h3 : mf_g L S a b = (L (a * 9 + b)).toInt := by
        unfold mf_g
        rw [hs, hb']
        rfl
      omega
  · intro hc
    unfold mf_cut
    rw [mf_sm_c (g := fun _ => 0) 9, mf_sm_0]
    intro a ha
    rw [mf_sm_c (g := fun _ => 0) 9, mf_sm_0]
    intro b hb
    unfold mf_g
    split
    · rename_i hx
      rw [Bool.and_eq_true, Bool.not_eq_true'] at hx
      have h1 := h a b ha hb
      have h2 := hc a b ha hb hx.1
      rw [hx.2] at h2
      by_cases h3 : 0 < (L (a * 9 + b)).toInt
      · exact absurd (h2 h3) (by decide)
      · omega
    · rfl
/-! masks below 128 as sides -/
def mf_S (s : Nat) (v : Nat) : Bool := if v < 7 then s.testBit v else v == 7
theorem mf_S7 (s : Nat) : mf_S s 7 = true := rfl
theorem mf_S8 (s : Nat) : mf_S s 8 = false := rfl
theorem mf_Sl {s v : Nat} (h : v < 7) : mf_S s v = s.testBit v := if_pos h
theorem mf_mk (S : Nat → Bool) : ∀ n, ∃ s, s < 2 ^ n ∧ ∀ v, v < n → s.testBit v = S v
  | 0 => ⟨0, by decide, fun v hv => absurd hv (Nat.not_lt_zero _)⟩
  | n + 1 => by
    obtain ⟨s, hs, h⟩ := mf_mk S n
    cases e : S n with
    | true =>
      refine ⟨2 ^ n + s, by rw [Nat.pow_succ]; omega, ?_⟩
      intro v hv
      by_cases hvn : v = n
      · subst hvn
        rw [Nat.testBit_two_pow_add_eq, Nat.testBit_lt_two_pow hs, e]
        rfl
      · rw [Nat.testBit_two_pow_add_gt (by omega)]
        exact h v (by omega)
    | false =>
      refine ⟨s, by rw [Nat.pow_succ]; omega, ?_⟩
      intro v hv
      by_cases hvn : v = n
      · subst hvn
        rw [Nat.testBit_lt_two_pow hs, e]
      · exact h v (by omega)
theorem mf_inj {s t : Nat} (hs : s < 128) (ht : t < 128) (h : ∀ v, v < 7 → s.testBit v = t.testBit v) : s = t := by
  apply Nat.eq_of_testBit_eq
  intro i
  by_cases hi : i < 7
  · exact h i hi
  · have h7 : 2 ^ 7 ≤ 2 ^ i := Nat.pow_le_pow_right (by decide) (by omega)
    rw [Nat.testBit_lt_two_pow (by omega), Nat.testBit_lt_two_pow (by omega)]
end
section
/-! bits; the walks of price (reference) and costOf (component) -/
theorem mb_b1 : ∀ i, i < 32 → bt 1 i = decide (i = 0) := by decide +kernel
theorem mb_127 : ∀ i, i < 32 → bt 127 i = decide (i < 7) := by decide +kernel
theorem mb_shl : ∀ v, v < 32 → ∀ i, i < 32 → bt ((1 : Int32) <<< (nI v &&& 31)) i = decide (i = v) := by decide +kernel
theorem mb_bit (x : Int32) {v : Nat} (hv : v < 32) : (x >>> (nI v &&& 31)) &&& 1 = if bt x v = true then 1 else 0 := by
  apply b_ext
  intro i hi
  rw [b_and, b_sshr v hv x hi, mb_b1 i hi]
  by_cases h0 : i = 0
  · subst h0
    rw [Nat.add_zero, if_pos hv]
    cases bt x v <;> decide
  · rw [decide_eq_false h0, Bool.and_false]
    split
    · rw [mb_b1 i hi, decide_eq_false h0]
    · rw [b_0]
theorem mb_eq1 (x : Int32) {v : Nat} (hv : v < 32) : (x >>> (nI v &&& 31)) &&& 1 = 1 ↔ bt x v = true := by
  rw [mb_bit x hv]
  cases bt x v <;> decide
theorem mb_eq0 (x : Int32) {v : Nat} (hv : v < 32) : (x >>> (nI v &&& 31)) &&& 1 = 0 ↔ bt x v = false := by
  rw [mb_bit x hv]
  cases bt x v <;> decide
theorem mb_eqq (x : Int32) {u v : Nat} (hu : u < 32) (hv : v < 32) : ((x >>> (nI u &&& 31)) &&& 1) = ((x >>> (nI v &&& 31)) &&& 1) ↔ bt x u = bt x v := by
  rw [mb_bit x hu, mb_bit x hv]
  cases bt x u <;> cases bt x v <;> decide
theorem mb_nt {b : Bool} (h : ¬ b = true) : b = false := by cases b <;> simp_all
theorem mb_nf {b : Bool} (h : ¬ b = false) : b = true := by cases b <;> simp_all
theorem mb_in {post : Int32 → Prop} {x : Int32} {v : Nat} (hv : v < 32) (h1 : bt x v = true → post 1) (h0 : bt x v = false → post 0) : wpX_in post x (nI v) :=
  br_c (fun e => h1 ((mb_eq1 x hv).mp e)) (fun e => h0 (mb_nt (fun z => e ((mb_eq1 x hv).mpr z))))
theorem mi_7 (u v : Nat) : nI u * 7 + nI v = nI (u * 7 + v) := by
  rw [show (7 : Int32) = nI 7 from rfl, pk_mul, nI_add]
theorem mi_9 (u v : Nat) : nI u * 9 + nI v = nI (u * 9 + v) := by
  rw [show (9 : Int32) = nI 9 from rfl, pk_mul, nI_add]
theorem mi_98 (u : Nat) : nI u * 9 + 8 = nI (u * 9 + 8) := mi_9 u 8
theorem mi_63 (u : Nat) : 63 + nI u = nI (63 + u) := nI_add 63 u
theorem mo_add (A : Int) (z : Int32) : Int32.ofInt A + z = Int32.ofInt (A + z.toInt) := by
  rw [Int32.ofInt_add, Int32.ofInt_toInt]
def mf_pl (b s : Nat → Int32) (x : Int32) (v : Nat) : Int32 := if b v + s v * x ≤ 0 then 0 else b v + s v * x
def mf_q (b s : Nat → Int32) (x : Int32) (v : Nat) : Int := (mf_pl b s x v).toInt
def mf_cc (ca : Nat → Int32) (u v : Nat) : Int := (ca (u * 7 + v)).toInt
def mf_P (ca sb ss tb ts : Nat → Int32) (x : Int32) (S : Nat → Bool) : Int := mf_pr (mf_q sb ss x) (mf_q tb ts x) (mf_cc ca) S
def mf_in (ca : Nat → Int32) (x1 : Int32) (v u : Nat) : Int := if bt x1 u = bt x1 v then 0 else mf_cc ca u v
def mf_F (ca sb ss tb ts : Nat → Int32) (x1 x2 : Int32) (v : Nat) : Int := (if bt x1 v = true then mf_q tb ts x2 v else mf_q sb ss x2 v) + mf_sm (mf_in ca x1 v) v
section
variable {wf fl : Int32} {ca sb ss tb ts le qu cm re ta rf sg se : Nat → Int32}
theorem yp_in {post : Int32 → Prop} {J5 : Int32 → Int32 → Prop} {x1 x2 : Int32} {v : Nat} (hv : v < 7) (A : Int)
    (hJ : J5 (Int32.ofInt (A + mf_sm (mf_in ca x1 v) v)) (nI (v + 1))) :
    ∀ d u, u + d = v → wY_price_85 post J5 x1 x2 (nI v) ca sb ss tb ts se (d + 1) (Int32.ofInt (A + mf_sm (mf_in ca x1 v) u)) (nI u)
  | 0, u, h => by
    have e : u = v := by omega
    subst e
    exact br_t (nI_le (Nat.le_refl u) (by omega)) (nm_r (nI_1 u) hJ)
  | d + 1, u, h => by
    have ih := yp_in (post := post) (x2 := x2) hv A hJ d (u + 1) (by omega)
    refine br_f (nI_ge (by omega) (by omega)) (br_c (fun e => nm_r (nI_1 u) ?_) (fun e => ⟨?_, nm_r (e' := Int32.ofInt (A + mf_sm (mf_in ca x1 v) (u + 1))) ?_ (nm_r (nI_1 u) ih)⟩))
    · have es : mf_sm (mf_in ca x1 v) (u + 1) = mf_sm (mf_in ca x1 v) u := by
        show mf_sm (mf_in ca x1 v) u + mf_in ca x1 v u = _
        unfold mf_in
        rw [if_pos ((mb_eqq x1 (by omega) (by omega)).mp e), Int.add_zero]
      rw [es] at ih
      exact ih
    · rw [mi_7]
      exact vp_in_nI (by omega) (by omega)
    · rw [mi_7, nI_clamp (by omega), mo_add]
      congr 1
      show A + mf_sm (mf_in ca x1 v) u + (ca (u * 7 + v)).toInt = A + (mf_sm (mf_in ca x1 v) u + mf_in ca x1 v u)
      have e2 : mf_in ca x1 v u = (ca (u * 7 + v)).toInt := if_neg (fun z => e ((mb_eqq x1 (by omega) (by omega)).mpr z))
      rw [e2, Int.add_assoc]
theorem yp_70 {post : Int32 → Prop} {J5 : Int32 → Int32 → Prop} {x1 x2 z : Int32} {v : Nat} (hv : v < 7) (B : Int)
    (hJ : J5 (Int32.ofInt (B + (if z ≤ 0 then (0 : Int32) else z).toInt + mf_sm (mf_in ca x1 v) v)) (nI (v + 1))) :
    wY_price_70 post J5 x1 x2 (Int32.ofInt B) (nI v) z ca sb ss tb ts se := by
  refine br_c (fun e => ⟨v + 1, ?_⟩) (fun e => nm_r (mo_add B z) ⟨v + 1, ?_⟩)
  · rw [if_pos e, Int32.toInt_zero, Int.add_zero] at hJ
    have k := yp_in (post := post) (x2 := x2) (sb := sb) (ss := ss) (tb := tb) (ts := ts) (se := se) hv B hJ v 0 (by omega)
    rw [show B + mf_sm (mf_in ca x1 v) 0 = B from Int.add_zero B] at k
    exact k
  · rw [if_neg e] at hJ
    have k := yp_in (post := post) (x2 := x2) (sb := sb) (ss := ss) (tb := tb) (ts := ts) (se := se) hv (B + z.toInt) hJ v 0 (by omega)
    rw [show B + z.toInt + mf_sm (mf_in ca x1 v) 0 = B + z.toInt from Int.add_zero _] at k
    exact k
theorem mf_F_s {x1 x2 : Int32} {v : Nat} : mf_sm (mf_F ca sb ss tb ts x1 x2) (v + 1) = mf_sm (mf_F ca sb ss tb ts x1 x2) v + (if bt x1 v = true then mf_q tb ts x2 v else mf_q sb ss x2 v) + mf_sm (mf_in ca x1 v) v :=
  (Int.add_assoc _ _ _).symm
theorem yp_out {post : Int32 → Prop} {x1 x2 : Int32} (hp : post (Int32.ofInt (mf_P ca sb ss tb ts x2 (bt x1)))) :
    ∀ d v, v + d = 7 → wY_price_5 post x1 x2 ca sb ss tb ts se (d + 1) (Int32.ofInt (mf_sm (mf_F ca sb ss tb ts x1 x2) v)) (nI v)
  | 0, v, h => by
    have e : v = 7 := by omega
    subst e
    exact br_t (by decide) hp
  | d + 1, v, h => by
    have hv : v < 7 := by omega
    have ev : (nI v).toNatClampNeg = v := nI_clamp (by omega)
    have hi : vp_in (nI v) 7 := vp_in_nI hv (by omega)
    have ih := yp_out hp d (v + 1) (by omega)
    rw [mf_F_s] at ih
    refine br_f (nI_ge (b := 7) (by omega) (by decide)) (br_c (fun e => ?_) (fun e => ?_))
    · rw [if_neg (by rw [(mb_eq0 x1 (by omega)).mp e]; decide)] at ih
      refine br_t rfl ⟨hi, hi, ?_⟩
      rw [ev]
      exact yp_70 hv _ ih
    · rw [if_pos (mb_nf (fun z => e ((mb_eq0 x1 (by omega)).mpr z)))] at ih
      refine br_f (by decide) ⟨hi, hi, ?_⟩
      rw [ev]
      exact yp_70 hv _ ih
theorem yp_price {post : Int32 → Prop} {x1 x2 : Int32} (hp : post (Int32.ofInt (mf_P ca sb ss tb ts x2 (bt x1)))) : wpY_price post (ca, sb, ss, tb, ts, se) x1 x2 :=
  ⟨8, yp_out (se := se) hp 7 0 rfl⟩
theorem xp_src {post : Int32 → Prop} {x : Int32} {v : Nat} (hv : v < 7) (h : post (mf_pl sb ss x v)) : wpX_sourcePull post (wf, fl, ca, sb, ss, tb, ts, le, qu, cm, re, ta, rf, sg) (nI v) x := by
  have hi : vp_in (nI v) 7 := vp_in_nI hv (by omega)
  refine And.intro hi (And.intro hi (nm_r (e' := sb v + ss v * x) (by rw [nI_clamp (by omega)]) (br_c (fun e => ?_) (fun e => ?_))))
  · unfold mf_pl at h
    rw [if_pos e] at h
    exact h
  · unfold mf_pl at h
    rw [if_neg e] at h
    exact h
theorem xp_snk {post : Int32 → Prop} {x : Int32} {v : Nat} (hv : v < 7) (h : post (mf_pl tb ts x v)) : wpX_sinkPull post (wf, fl, ca, sb, ss, tb, ts, le, qu, cm, re, ta, rf, sg) (nI v) x := by
  have hi : vp_in (nI v) 7 := vp_in_nI hv (by omega)
  refine And.intro hi (And.intro hi (nm_r (e' := tb v + ts v * x) (by rw [nI_clamp (by omega)]) (br_c (fun e => ?_) (fun e => ?_))))
  · unfold mf_pl at h
    rw [if_pos e] at h
    exact h
  · unfold mf_pl at h
    rw [if_neg e] at h
    exact h
theorem xp_in {post : Int32 → Prop} {J5 : Int32 → Int32 → Prop} {x1 x2 x5 : Int32} {v : Nat} (hv : v < 7) (hx : x5 = if bt x1 v = true then 1 else 0) (A : Int)
    (hJ : J5 (Int32.ofInt (A + mf_sm (mf_in ca x1 v) v)) (nI (v + 1))) :
    ∀ d u, u + d = v → wX_costOf_48 post J5 x1 x2 (nI v) x5 wf fl ca sb ss tb ts le qu cm re ta rf sg (d + 1) (Int32.ofInt (A + mf_sm (mf_in ca x1 v) u)) (nI u)
  | 0, u, h => by
    have e : u = v := by omega
    subst e
    exact br_t (nI_le (Nat.le_refl u) (by omega)) (nm_r (nI_1 u) hJ)
  | d + 1, u, h => by
    have ih := xp_in (post := post) (x2 := x2) (x5 := x5) hv hx A hJ d (u + 1) (by omega)
    have same : bt x1 u = bt x1 v → ∀ y : Int32, y = nI u + 1 → wX_costOf_48 post J5 x1 x2 (nI v) x5 wf fl ca sb ss tb ts le qu cm re ta rf sg (d + 1) (Int32.ofInt (A + mf_sm (mf_in ca x1 v) u)) y := by
      intro e
      refine nm_r (nI_1 u) ?_
      have es : mf_sm (mf_in ca x1 v) (u + 1) = mf_sm (mf_in ca x1 v) u := by
        show mf_sm (mf_in ca x1 v) u + mf_in ca x1 v u = _
        unfold mf_in
        rw [if_pos e, Int.add_zero]
      rw [es] at ih
      exact ih
    have diff : ¬ bt x1 u = bt x1 v → vp_in (nI u * 7 + nI v) 49 ∧ ∀ x3 : Int32, x3 = Int32.ofInt (A + mf_sm (mf_in ca x1 v) u) + ca (nI u * 7 + nI v).toNatClampNeg → ∀ y : Int32, y = nI u + 1 → wX_costOf_48 post J5 x1 x2 (nI v) x5 wf fl ca sb ss tb ts le qu cm re ta rf sg (d + 1) x3 y := by
      intro e
      refine ⟨?_, nm_r (e' := Int32.ofInt (A + mf_sm (mf_in ca x1 v) (u + 1))) ?_ (nm_r (nI_1 u) ih)⟩
      · rw [mi_7]
        exact vp_in_nI (by omega) (by omega)
      · rw [mi_7, nI_clamp (by omega), mo_add]
        congr 1
        show A + mf_sm (mf_in ca x1 v) u + (ca (u * 7 + v)).toInt = A + (mf_sm (mf_in ca x1 v) u + mf_in ca x1 v u)
        have e2 : mf_in ca x1 v u = (ca (u * 7 + v)).toInt := if_neg e
        rw [e2, Int.add_assoc]
    refine br_f (nI_ge (by omega) (by omega)) (mb_in (by omega) (fun hb => br_c (fun e => same ?_) (fun e => diff ?_)) (fun hb => br_c (fun e => same ?_) (fun e => diff ?_)))
    · rw [hb]
      revert e
      rw [hx]
      cases bt x1 v <;> decide
    · rw [hb]
      revert e
      rw [hx]
      cases bt x1 v <;> decide
    · rw [hb]
      revert e
      rw [hx]
      cases bt x1 v <;> decide
    · rw [hb]
      revert e
      rw [hx]
      cases bt x1 v <;> decide
theorem xp_out {post : Int32 → Prop} {x1 x2 : Int32} (hp : post (Int32.ofInt (mf_P ca sb ss tb ts x2 (bt x1)))) :
    ∀ d v, v + d = 7 → wX_costOf_5 post x1 x2 wf fl ca sb ss tb ts le qu cm re ta rf sg (d + 1) (Int32.ofInt (mf_sm (mf_F ca sb ss tb ts x1 x2) v)) (nI v)
  | 0, v, h => by
    have e : v = 7 := by omega
    subst e
    exact br_t (by decide) hp
  | d + 1, v, h => by
    have hv : v < 7 := by omega
    have ih := xp_out hp d (v + 1) (by omega)
    rw [mf_F_s] at ih
    refine br_f (nI_ge (b := 7) (by omega) (by decide)) (mb_in (by omega) (fun hb => br_f (by decide) (xp_snk hv (nm_r (mo_add _ _) ⟨v + 1, ?_⟩))) (fun hb => br_t rfl (xp_src hv (nm_r (mo_add _ _) ⟨v + 1, ?_⟩))))
    · rw [if_pos hb] at ih
      have k := xp_in (post := post) (x2 := x2) (x5 := 1) (wf := wf) (fl := fl) (sb := sb) (ss := ss) (tb := tb) (ts := ts) (le := le) (qu := qu) (cm := cm) (re := re) (ta := ta) (rf := rf) (sg := sg) hv (if_pos hb).symm (mf_sm (mf_F ca sb ss tb ts x1 x2) v + mf_q tb ts x2 v) ih v 0 (by omega)
      rw [show mf_sm (mf_F ca sb ss tb ts x1 x2) v + mf_q tb ts x2 v + mf_sm (mf_in ca x1 v) 0 = mf_sm (mf_F ca sb ss tb ts x1 x2) v + mf_q tb ts x2 v from Int.add_zero _] at k
      exact k
    · have hb' : ¬ bt x1 v = true := by rw [hb]; decide
      rw [if_neg hb'] at ih
      have k := xp_in (post := post) (x2 := x2) (x5 := 0) (wf := wf) (fl := fl) (sb := sb) (ss := ss) (tb := tb) (ts := ts) (le := le) (qu := qu) (cm := cm) (re := re) (ta := ta) (rf := rf) (sg := sg) hv (if_neg hb').symm (mf_sm (mf_F ca sb ss tb ts x1 x2) v + mf_q sb ss x2 v) ih v 0 (by omega)
      rw [show mf_sm (mf_F ca sb ss tb ts x1 x2) v + mf_q sb ss x2 v + mf_sm (mf_in ca x1 v) 0 = mf_sm (mf_F ca sb ss tb ts x1 x2) v + mf_q sb ss x2 v from Int.add_zero _] at k
      exact k
theorem xp_costOf {post : Int32 → Prop} {x1 x2 : Int32} (hp : post (Int32.ofInt (mf_P ca sb ss tb ts x2 (bt x1)))) : wpX_costOf post (wf, fl, ca, sb, ss, tb, ts, le, qu, cm, re, ta, rf, sg) x1 x2 :=
  ⟨8, xp_out (wf := wf) (fl := fl) (le := le) (qu := qu) (cm := cm) (re := re) (ta := ta) (rf := rf) (sg := sg) hp 7 0 rfl⟩
end
end
section
/-! load: the net as a table -/
def mf_T (ca sb ss tb ts : Nat → Int32) (x : Int32) (i : Nat) : Int32 :=
  if i / 9 < 7 ∧ i % 9 < 7 then ca (i / 9 * 7 + i % 9) else if i / 9 = 7 ∧ i % 9 < 7 then mf_pl sb ss x (i % 9) else if i / 9 < 7 ∧ i % 9 = 8 then mf_pl tb ts x (i / 9) else 0
section
variable {wf fl : Int32} {ca sb ss tb ts le qu cm re ta rf sg : Nat → Int32}
theorem mf_T1 {x : Int32} {u v : Nat} (hu : u < 7) (hv : v < 7) : mf_T ca sb ss tb ts x (u * 9 + v) = ca (u * 7 + v) := by
  unfold mf_T
  rw [show (u * 9 + v) / 9 = u by omega, show (u * 9 + v) % 9 = v by omega, if_pos ⟨hu, hv⟩]
theorem mf_T2 {x : Int32} {u : Nat} (hu : u < 7) : mf_T ca sb ss tb ts x (63 + u) = mf_pl sb ss x u := by
  unfold mf_T
  rw [show (63 + u) / 9 = 7 by omega, show (63 + u) % 9 = u by omega, if_neg (by omega), if_pos ⟨rfl, hu⟩]
theorem mf_T3 {x : Int32} {u : Nat} (hu : u < 7) : mf_T ca sb ss tb ts x (u * 9 + 8) = mf_pl tb ts x u := by
  unfold mf_T
  rw [show (u * 9 + 8) / 9 = u by omega, show (u * 9 + 8) % 9 = 8 by omega, if_neg (by omega), if_neg (by omega), if_pos ⟨hu, rfl⟩]
theorem mf_T0 {x : Int32} {i : Nat} (h : 71 ≤ i ∨ i % 9 = 7) : mf_T ca sb ss tb ts x i = 0 := by
  unfold mf_T
  rw [if_neg (by omega), if_neg (by omega), if_neg (by omega)]
/-- what is written when rows below u, and row u below v, are done -/
def ml_I (T L : Nat → Int32) (u v : Nat) : Prop :=
  (∀ i, i < 81 → (i / 9 < u ∨ (i / 9 = 7 ∧ i % 9 < u) ∨ (i / 9 = u ∧ i % 9 < v)) → L i = T i) ∧
  (∀ i, i < 81 → ¬ (i / 9 < u ∨ (i / 9 = 7 ∧ i % 9 < u) ∨ (i / 9 = u ∧ i % 9 < v)) → L i = 0)
theorem ml_in {T L : Nat → Int32} {u v : Nat} (hu : u < 7) (hv : v < 7) (h : ml_I T L u v) : ml_I T (upd L (u * 9 + v) (T (u * 9 + v))) u (v + 1) := by
  refine ⟨fun i hi hp => ?_, fun i hi hp => ?_⟩
  · by_cases e : i = u * 9 + v
    · rw [e, pk_us]
    · rw [pk_un e]
      exact h.1 i hi (by omega)
  · by_cases e : i = u * 9 + v
    · omega
    · rw [pk_un e]
      exact h.2 i hi (by omega)
theorem ml_row {T L : Nat → Int32} {u : Nat} (hu : u < 7) (h : ml_I T L u 7) (h7 : T (u * 9 + 7) = 0) : ml_I T (upd (upd L (63 + u) (T (63 + u))) (u * 9 + 8) (T (u * 9 + 8))) (u + 1) 0 := by
  refine ⟨fun i hi hp => ?_, fun i hi hp => ?_⟩
  · by_cases e : i = u * 9 + 8
    · rw [e, pk_us]
    · rw [pk_un e]
      by_cases e2 : i = 63 + u
      · rw [e2, pk_us]
      · rw [pk_un e2]
        by_cases e3 : i = u * 9 + 7
        · rw [h.2 i hi (by omega), e3, h7]
        · exact h.1 i hi (by omega)
  · by_cases e : i = u * 9 + 8
    · omega
    · rw [pk_un e]
      by_cases e2 : i = 63 + u
      · omega
      · rw [pk_un e2]
        exact h.2 i hi (by omega)
theorem xl_31 {post : SX → Prop} {J23 : Int32 → (Nat → Int32) → (Nat → Int32) → (Nat → Int32) → (Nat → Int32) → (Nat → Int32) → (Nat → Int32) → (Nat → Int32) → (Nat → Int32) → (Nat → Int32) → (Nat → Int32) → (Nat → Int32) → (Nat → Int32) → Prop} {x : Int32} {u : Nat} (hu : u < 7)
    (hJ : ∀ L, ml_I (mf_T ca sb ss tb ts x) L (u + 1) 0 → J23 (nI (u + 1)) ca sb ss tb ts L qu cm re ta rf sg) :
    ∀ d v L, v + d = 7 → ml_I (mf_T ca sb ss tb ts x) L u v → wX_load_31 post J23 x (nI u) wf fl (d + 1) (nI v) ca sb ss tb ts L qu cm re ta rf sg
  | 0, v, L, h, I => by
    have e : v = 7 := by omega
    subst e
    refine br_t (by decide) (xp_src hu ⟨?_, nm_r (e' := upd L (63 + u) (mf_T ca sb ss tb ts x (63 + u))) ?_ (xp_snk hu ⟨?_, nm_r (e' := upd (upd L (63 + u) (mf_T ca sb ss tb ts x (63 + u))) (u * 9 + 8) (mf_T ca sb ss tb ts x (u * 9 + 8))) ?_ (nm_r (nI_1 u) (hJ _ (ml_row hu I (mf_T0 (by omega)))))⟩)⟩)
    · rw [mi_63]
      exact vp_in_nI (by omega) (by omega)
    · rw [mi_63, nI_clamp (by omega), mf_T2 hu]
    · rw [mi_98]
      exact vp_in_nI (by omega) (by omega)
    · rw [mi_98, nI_clamp (by omega), mf_T3 hu]
  | d + 1, v, L, h, I => by
    have hv : v < 7 := by omega
    have ih := xl_31 (post := post) hu hJ d (v + 1) (upd L (u * 9 + v) (mf_T ca sb ss tb ts x (u * 9 + v))) (by omega) (ml_in hu hv I)
    refine br_f (nI_ge (b := 7) (by omega) (by decide)) ⟨?_, ?_, nm_r (e' := upd L (u * 9 + v) (mf_T ca sb ss tb ts x (u * 9 + v))) ?_ (nm_r (nI_1 v) ih)⟩
    · rw [mi_7]
      exact vp_in_nI (by omega) (by omega)
    · rw [mi_9]
      exact vp_in_nI (by omega) (by omega)
    · rw [mi_9, mi_7, nI_clamp (by omega), nI_clamp (by omega), mf_T1 hu hv]
theorem xl_23 {post : SX → Prop} {x : Int32} (hp : ∀ L, (∀ i, i < 81 → L i = mf_T ca sb ss tb ts x i) → post (wf, fl, ca, sb, ss, tb, ts, L, qu, cm, re, ta, rf, sg)) :
    ∀ d u L, u + d = 7 → ml_I (mf_T ca sb ss tb ts x) L u 0 → wX_load_23 post x wf fl (d + 1) (nI u) ca sb ss tb ts L qu cm re ta rf sg
  | 0, u, L, h, I => by
    have e : u = 7 := by omega
    subst e
    refine br_t (by decide) (hp L (fun i hi => ?_))
    by_cases z : i / 9 < 7 ∨ (i / 9 = 7 ∧ i % 9 < 7) ∨ (i / 9 = 7 ∧ i % 9 < 0)
    · exact I.1 i hi z
    · rw [I.2 i hi z, mf_T0 (by omega)]
  | d + 1, u, L, h, I =>
    br_f (nI_ge (b := 7) (by omega) (by decide)) ⟨8, xl_31 (by omega) (fun L' I' => xl_23 hp d (u + 1) L' (by omega) I') 7 0 L rfl I⟩
theorem xl_2 {post : SX → Prop} {x : Int32} (hp : ∀ L, (∀ i, i < 81 → L i = mf_T ca sb ss tb ts x i) → post (wf, fl, ca, sb, ss, tb, ts, L, qu, cm, re, ta, rf, sg)) :
    ∀ d k L, k + d = 81 → (∀ i, i < k → L i = 0) → wX_load_2 post x wf fl (d + 1) (nI k) ca sb ss tb ts L qu cm re ta rf sg
  | 0, k, L, h, I => by
    have e : k = 81 := by omega
    subst e
    refine br_t (by decide) ⟨8, xl_23 hp 7 0 L rfl ⟨fun i hi z => ?_, fun i hi _ => I i hi⟩⟩
    omega
  | d + 1, k, L, h, I => by
    have ih := xl_2 hp d (k + 1) (upd L k 0) (by omega) (by
      intro i hi
      by_cases e : i = k
      · rw [e, pk_us]
      · rw [pk_un e]
        exact I i (by omega))
    refine br_f (nI_ge (b := 81) (by omega) (by decide)) ⟨vp_in_nI (by omega) (by omega), nm_r (e' := upd L k 0) ?_ (nm_r (nI_1 k) ih)⟩
    rw [nI_clamp (by omega)]
theorem xl_load {post : SX → Prop} {x : Int32} (hp : ∀ L, (∀ i, i < 81 → L i = mf_T ca sb ss tb ts x i) → post (wf, fl, ca, sb, ss, tb, ts, L, qu, cm, re, ta, rf, sg)) : wpX_load post (wf, fl, ca, sb, ss, tb, ts, le, qu, cm, re, ta, rf, sg) x :=
  ⟨82, xl_2 hp 81 0 le rfl (fun i hi => absurd hi (Nat.not_lt_zero _))⟩
end
end
section
/-! the search: a ghost queue q and for each place the place par of its parent -/
theorem mz_le (x : Int32) : x ≤ 0 ↔ x.toInt ≤ 0 := by rw [Int32.le_iff_toInt_le, Int32.toInt_zero]
theorem bq_pg : ∀ (n e : Nat) (q : Nat → Nat), (∀ j, j < e → q j < n) → (∀ i j, i < e → j < e → q i = q j → i = j) → e ≤ n
  | 0, e, q, h, _ => by
    cases e with
    | zero => exact Nat.le_refl _
    | succ e => exact absurd (h 0 (by omega)) (Nat.not_lt_zero _)
  | n + 1, e, q, h, inj => by
    by_cases hx : ∃ j0, j0 < e ∧ q j0 = n
    · obtain ⟨j0, hj0, hq⟩ := hx
      have hn : ∀ j, j < e → j ≠ j0 → q j < n := by
        intro j hj hne
        have h1 := h j hj
        have h2 : q j ≠ n := fun z => hne (inj j j0 hj hj0 (z.trans hq.symm))
        omega
      have k := bq_pg n (e - 1) (fun j => if j = j0 then q (e - 1) else q j) (by
        intro j hj
        by_cases e0 : j = j0
        · show (if j = j0 then q (e - 1) else q j) < n
          rw [if_pos e0]
          exact hn (e - 1) (by omega) (by omega)
        · show (if j = j0 then q (e - 1) else q j) < n
          rw [if_neg e0]
          exact hn j (by omega) e0) (by
        intro i j hi hj heq
        have heq' : (if i = j0 then q (e - 1) else q i) = (if j = j0 then q (e - 1) else q j) := heq
        by_cases ei : i = j0
        · by_cases ej : j = j0
          · omega
          · rw [if_pos ei, if_neg ej] at heq'
            have := inj (e - 1) j (by omega) (by omega) heq'
            omega
        · by_cases ej : j = j0
          · rw [if_neg ei, if_pos ej] at heq'
            have := inj i (e - 1) (by omega) (by omega) heq'
            omega
          · rw [if_neg ei, if_neg ej] at heq'
            exact inj i j (by omega) (by omega) heq')
      omega
    · have k := bq_pg n e q (fun j hj => by
        have h1 := h j hj
        have h2 : q j ≠ n := fun z => hx ⟨j, hj, z⟩
        omega) inj
      omega
def bf_V (e : Nat) (q : Nat → Nat) (v : Nat) : Prop := ∃ j, j < e ∧ q j = v
def bf_I (L : Nat → Int32) (e : Nat) (cm : Nat → Int32) (q par : Nat → Nat) : Prop :=
  (1 ≤ e ∧ q 0 = 7 ∧ par 0 = 0) ∧ (∀ j, j < e → q j < 9) ∧ (∀ i j, i < e → j < e → q i = q j → i = j) ∧
  (∀ j, 1 ≤ j → j < e → par j < j ∧ cm (q j) = nI (q (par j)) ∧ 0 < (L (q (par j) * 9 + q j)).toInt ∧ q (par j) ≠ 8) ∧ cm 7 = nI 7
def bf_X (L : Nat → Int32) (e : Nat) (qu cm : Nat → Int32) (q par : Nat → Nat) : Prop :=
  (∀ j, j < e → qu j = nI (q j)) ∧ (∀ v, v < 9 → ¬ bf_V e q v → cm v = -1) ∧
  (∀ i j, 1 ≤ i → i ≤ j → j < e → par i ≤ par j) ∧ (∀ j, 1 ≤ j → j < e → ∀ k, k < par j → ¬ 0 < (L (q k * 9 + q j)).toInt)
def bf_J (L : Nat → Int32) (i w e : Nat) (qu cm : Nat → Int32) (q par : Nat → Nat) : Prop :=
  bf_I L e cm q par ∧ bf_X L e qu cm q par ∧ i < e ∧ (∀ j, 1 ≤ j → j < e → par j ≤ i) ∧
  (∀ j, j < i → ∀ v, v < 9 → 0 < (L (q j * 9 + v)).toInt → bf_V e q v) ∧ (∀ v, v < w → 0 < (L (q i * 9 + v)).toInt → bf_V e q v) ∧ q i ≠ 8
def bf_H (L : Nat → Int32) (i e : Nat) (qu cm : Nat → Int32) (q par : Nat → Nat) : Prop :=
  bf_I L e cm q par ∧ bf_X L e qu cm q par ∧ i ≤ e ∧ (∀ j, 1 ≤ j → j < e → par j ≤ i) ∧
  (∀ j, j < i → ∀ v, v < 9 → 0 < (L (q j * 9 + v)).toInt → bf_V e q v)
theorem bf_e9 {L : Nat → Int32} {e : Nat} {cm : Nat → Int32} {q par : Nat → Nat} (h : bf_I L e cm q par) : e ≤ 9 := bq_pg 9 e q h.2.1 h.2.2.1
theorem bf_vis {L : Nat → Int32} {e : Nat} {qu cm : Nat → Int32} {q par : Nat → Nat} {v : Nat} (I : bf_I L e cm q par) (X : bf_X L e qu cm q par) (hv : v < 9) :
    (0 ≤ cm v ∧ bf_V e q v) ∨ (cm v = -1 ∧ ¬ bf_V e q v) := by
  by_cases h : bf_V e q v
  · refine Or.inl ⟨?_, h⟩
    obtain ⟨j, hj, e1⟩ := h
    by_cases j0 : j = 0
    · rw [← e1, j0, I.1.2.1, I.2.2.2.2]
      decide
    · have k := I.2.2.2.1 j (by omega) hj
      rw [← e1, k.2.1]
      have k2 := I.2.1 (par j) (by omega)
      exact nI_pos' (by omega)
  · exact Or.inr ⟨X.2.1 v hv h, h⟩
theorem bf_add0 {L : Nat → Int32} {i w e : Nat} {qu cm : Nat → Int32} {q par q' par' : Nat → Nat} (h : bf_J L i w e qu cm q par) (hw : w < 9) (hv : ¬ bf_V e q w)
    (hl : 0 < (L (q i * 9 + w)).toInt) (hq : ∀ j, j < e → q' j = q j) (hqe : q' e = w) (hp : ∀ j, j < e → par' j = par j) (hpe : par' e = i) :
    bf_J L i (w + 1) (e + 1) (upd qu e (nI w)) (upd cm w (nI (q i))) q' par' := by
  obtain ⟨⟨⟨h1, h2, h3⟩, h4, h5, h6, h7⟩, ⟨x1, x2, x3, x4⟩, hi, j1, j2, j3, j4⟩ := h
  have up : ∀ v, bf_V e q v → bf_V (e + 1) q' v := by
    intro v hv
    obtain ⟨j, hj, ej⟩ := hv
    exact ⟨j, by omega, by rw [hq j hj, ej]⟩
  have hne : ∀ j, j < e → q j ≠ w := fun j hj z => hv ⟨j, hj, z⟩
  refine ⟨⟨⟨by omega, by rw [hq 0 (by omega), h2], by rw [hp 0 (by omega), h3]⟩, ?_, ?_, ?_, ?_⟩, ⟨?_, ?_, ?_, ?_⟩, by omega, ?_, ?_, ?_, by rw [hq i hi]; exact j4⟩
  · intro j hj
    by_cases je : j = e
    · rw [je, hqe]
      exact hw
    · rw [hq j (by omega)]
      exact h4 j (by omega)
  · intro a b ha hb hab
    by_cases ae : a = e
    · by_cases be : b = e
      · omega
      · rw [ae, hqe, hq b (by omega)] at hab
        exact absurd hab.symm (hne b (by omega))
    · by_cases be : b = e
      · rw [be, hqe, hq a (by omega)] at hab
        exact absurd hab (hne a (by omega))
      · rw [hq a (by omega), hq b (by omega)] at hab
        exact h5 a b (by omega) (by omega) hab
  · intro j hj1 hj
    by_cases je : j = e
    · rw [je, hpe, hqe, hq i hi, pk_us]
      exact ⟨hi, rfl, hl, j4⟩
    · have k := h6 j hj1 (by omega)
      rw [hp j (by omega), hq j (by omega), hq (par j) (by omega), pk_un (hne j (by omega))]
      exact k
  · rw [pk_un (fun z => hne 0 (by omega) (h2.trans z))]
    exact h7
  · intro j hj
    by_cases je : j = e
    · rw [je, pk_us, hqe]
    · rw [pk_un je, hq j (by omega)]
      exact x1 j (by omega)
  · intro v hv9 hnv
    have a1 : v ≠ w := fun z => hnv ⟨e, by omega, by rw [hqe, z]⟩
    rw [pk_un a1]
    exact x2 v hv9 (fun z => hnv (up v z))
  · intro a b ha hab hb
    by_cases be : b = e
    · rw [be, hpe]
      by_cases ae : a = e
      · rw [ae, hpe]
        exact Nat.le_refl _
      · rw [hp a (by omega)]
        exact j1 a ha (by omega)
    · rw [hp a (by omega), hp b (by omega)]
      exact x3 a b ha hab (by omega)
  · intro j hj1 hj k hk
    by_cases je : j = e
    · rw [je, hpe] at hk
      rw [je, hqe, hq k (by omega)]
      exact fun z => hv (j2 k hk w hw z)
    · rw [hp j (by omega)] at hk
      have k6 := h6 j hj1 (by omega)
      rw [hq k (by omega), hq j (by omega)]
      exact x4 j hj1 (by omega) k hk
  · intro j hj1 hj
    by_cases je : j = e
    · rw [je, hpe]
      exact Nat.le_refl _
    · rw [hp j (by omega)]
      exact j1 j hj1 (by omega)
  · intro j hj v hv9 hlv
    rw [hq j (by omega)] at hlv
    exact up v (j2 j hj v hv9 hlv)
  · intro v hvw hlv
    rw [hq i hi] at hlv
    by_cases vw : v = w
    · exact ⟨e, by omega, by rw [hqe, vw]⟩
    · exact up v (j3 v (by omega) hlv)
theorem bf_add {L : Nat → Int32} {i w e : Nat} {qu cm : Nat → Int32} {q par : Nat → Nat} (h : bf_J L i w e qu cm q par) (hw : w < 9) (hv : ¬ bf_V e q w)
    (hl : 0 < (L (q i * 9 + w)).toInt) : ∃ q' par', bf_J L i (w + 1) (e + 1) (upd qu e (nI w)) (upd cm w (nI (q i))) q' par' := by
  refine ⟨fun j => if j = e then w else q j, fun j => if j = e then i else par j, bf_add0 h hw hv hl ?_ ?_ ?_ ?_⟩
  · intro j hj
    exact if_neg (by omega)
  · exact if_pos rfl
  · intro j hj
    exact if_neg (by omega)
  · exact if_pos rfl
theorem bf_skip {L : Nat → Int32} {i w e : Nat} {qu cm : Nat → Int32} {q par : Nat → Nat} (h : bf_J L i w e qu cm q par) (hv : 0 < (L (q i * 9 + w)).toInt → bf_V e q w) : bf_J L i (w + 1) e qu cm q par := by
  obtain ⟨a1, a2, a3, a4, a5, a6, a7⟩ := h
  refine ⟨a1, a2, a3, a4, a5, ?_, a7⟩
  intro v hvw hl
  by_cases vw : v = w
  · rw [vw] at hl ⊢
    exact hv hl
  · exact a6 v (by omega) hl
theorem bf_JH {L : Nat → Int32} {i e : Nat} {qu cm : Nat → Int32} {q par : Nat → Nat} (h : bf_J L i 9 e qu cm q par) : bf_H L (i + 1) e qu cm q par := by
  obtain ⟨a1, a2, a3, a4, a5, a6, a7⟩ := h
  refine ⟨a1, a2, a3, fun j hj1 hj => Nat.le_succ_of_le (a4 j hj1 hj), ?_⟩
  intro j hj v hv hl
  by_cases ji : j = i
  · rw [ji] at hl
    exact a6 v hv hl
  · exact a5 j (by omega) v hv hl
theorem bf_HJ {L : Nat → Int32} {i e : Nat} {qu cm : Nat → Int32} {q par : Nat → Nat} (h : bf_H L i e qu cm q par) (hi : i < e) (h8 : ¬ bf_V e q 8) : bf_J L i 0 e qu cm q par := by
  obtain ⟨a1, a2, a3, a4, a5⟩ := h
  exact ⟨a1, a2, hi, a4, a5, fun v hv => absurd hv (Nat.not_lt_zero _), fun z => h8 ⟨i, hi, z⟩⟩
def bf_W (L cm : Nat → Int32) : Prop := ∃ (e : Nat) (q par : Nat → Nat) (j8 : Nat), bf_I L e cm q par ∧ j8 < e ∧ q j8 = 8 ∧
  (∀ w, w < 7 → 0 < (L (63 + w)).toInt → 0 < (L (w * 9 + 8)).toInt → (L 71).toInt = 0 → 1 ≤ par j8 ∧ par (par j8) = 0)
theorem bf_found {L : Nat → Int32} {i e : Nat} {qu cm : Nat → Int32} {q par : Nat → Nat} (h : bf_H L i e qu cm q par) (h8 : bf_V e q 8) : bf_W L cm := by
  obtain ⟨a1, ⟨x1, x2, x3, x4⟩, a3, a4, a5⟩ := h
  obtain ⟨j8, hj8, e8⟩ := h8
  refine ⟨e, q, par, j8, a1, hj8, e8, ?_⟩
  intro w hw l1 l2 l71
  have q0 := a1.1.2.1
  have j81 : 1 ≤ j8 := by
    rcases Nat.eq_zero_or_pos j8 with z | z
    · rw [z, q0] at e8
      omega
    · exact z
  have k8 := a1.2.2.2.1 j8 j81 hj8
  have p1 : 1 ≤ par j8 := by
    rcases Nat.eq_zero_or_pos (par j8) with z | z
    · have k := k8.2.2.1
      rw [z, q0, e8] at k
      have k2 : (L (7 * 9 + 8)).toInt = 0 := l71
      omega
    · exact z
  refine ⟨p1, ?_⟩
  have pi := a4 j8 j81 hj8
  have vw : bf_V e q w := a5 0 (by omega) w (by omega) (by rw [q0]; exact l1)
  obtain ⟨jw, hjw, ew⟩ := vw
  have jw1 : 1 ≤ jw := by
    rcases Nat.eq_zero_or_pos jw with z | z
    · rw [z, q0] at ew
      omega
    · exact z
  have pw : par jw = 0 := by
    rcases Nat.eq_zero_or_pos (par jw) with z | z
    · exact z
    · exact absurd (by rw [q0, ew]; exact l1) (x4 jw jw1 hjw 0 z)
  have hle : par j8 ≤ jw := by
    rcases Nat.lt_or_ge jw (par j8) with z | z
    · exact absurd (by rw [ew, e8]; exact l2) (x4 j8 j81 hj8 jw z)
    · exact z
  have := x3 (par j8) jw p1 hle hjw
  omega
theorem bf_none {L : Nat → Int32} {e : Nat} {qu cm : Nat → Int32} {q par : Nat → Nat} (h : bf_H L e e qu cm q par) (h8 : ¬ bf_V e q 8) :
    ∃ R : Nat → Bool, R 7 = true ∧ R 8 = false ∧ mf_Cl L R := by
  obtain ⟨a1, a2, a3, a4, a5⟩ := h
  refine ⟨fun v => decide (0 ≤ cm v), ?_, ?_, ?_⟩
  · have k : (0 : Int32) ≤ cm 7 := by
      rw [a1.2.2.2.2]
      decide
    exact decide_eq_true k
  · rcases bf_vis a1 a2 (show 8 < 9 by omega) with z | z
    · exact absurd z.2 h8
    · show decide (0 ≤ cm 8) = false
      rw [z.1]
      decide
  · intro a b ha hb hs hl
    have hs' : (0 : Int32) ≤ cm a := of_decide_eq_true hs
    have va : bf_V e q a := by
      rcases bf_vis a1 a2 ha with z | z
      · exact z.2
      · rw [z.1] at hs'
        exact absurd hs' (by decide)
    obtain ⟨j, hj, ej⟩ := va
    have vb := a5 j hj b hb (by rw [ej]; exact hl)
    rcases bf_vis a1 a2 hb with z | z
    · exact decide_eq_true z.1
    · exact absurd vb z.2
section
variable {wf fl : Int32} {ca sb ss tb ts le re ta rf sg : Nat → Int32}
theorem xf_59 {post : Int32 → SX → Prop} {J42 : Int32 → Int32 → (Nat → Int32) → (Nat → Int32) → (Nat → Int32) → (Nat → Int32) → (Nat → Int32) → (Nat → Int32) → (Nat → Int32) → (Nat → Int32) → (Nat → Int32) → (Nat → Int32) → (Nat → Int32) → (Nat → Int32) → Prop} {i : Nat}
    (hJ : ∀ e qu cm q par, bf_H le (i + 1) e qu cm q par → J42 (nI e) (nI (i + 1)) ca sb ss tb ts le qu cm re ta rf sg) :
    ∀ d w e qu cm q par, w + d = 9 → bf_J le i w e qu cm q par → wX_findWay_59 post J42 (nI i) wf fl (d + 1) (nI e) (nI w) ca sb ss tb ts le qu cm re ta rf sg
  | 0, w, e, qu, cm, q, par, h, I => by
    have e9 : w = 9 := by omega
    subst e9
    exact br_t (by decide) (nm_r (nI_1 i) (hJ e qu cm q par (bf_JH I)))
  | d + 1, w, e, qu, cm, q, par, h, I => by
    have hw : w < 9 := by omega
    have he := bf_e9 I.1
    have hi := I.2.2.1
    have hqi := I.1.2.1 i hi
    have ev : (nI w).toNatClampNeg = w := nI_clamp (by omega)
    have ei : (nI i).toNatClampNeg = i := nI_clamp (by omega)
    have ee : (nI e).toNatClampNeg = e := nI_clamp (by omega)
    have hx : (nI (q i * 9 + w)).toNatClampNeg = q i * 9 + w := nI_clamp (by omega)
    have hq : qu i = nI (q i) := I.2.1.1 i hi
    have vw : vp_in (nI w) 9 := vp_in_nI hw (by omega)
    have vi : vp_in (nI i) 9 := vp_in_nI (by omega) (by omega)
    rw [wX_findWay_59]
    dsimp only
    rw [ev, ei, ee, hq, mi_9, hx]
    refine br_f (nI_ge (b := 9) (by omega) (by decide)) ⟨vw, br_c (fun hc => nm_r (nI_1 w) ?_) (fun hc => ⟨vi, vp_in_nI (by omega) (by omega), br_c (fun hl => nm_r (nI_1 w) ?_) (fun hl => ⟨vi, vw, nm_e ⟨?_, nm_e (nm_r (nI_1 e) (nm_r (nI_1 w) ?_))⟩⟩)⟩)⟩
    · refine xf_59 hJ d (w + 1) e qu cm q par (by omega) (bf_skip I (fun _ => ?_))
      rcases bf_vis I.1 I.2.1 hw with z | z
      · exact z.2
      · rw [z.1] at hc
        exact absurd hc (by decide)
    · refine xf_59 hJ d (w + 1) e qu cm q par (by omega) (bf_skip I (fun z => ?_))
      rw [mz_le] at hl
      omega
    · have hv : ¬ bf_V e q w := by
        rcases bf_vis I.1 I.2.1 hw with z | z
        · exact absurd z.1 hc
        · exact z.2
      rw [mz_le] at hl
      obtain ⟨q', par', I'⟩ := bf_add I hw hv (by omega)
      have := bf_e9 I'.1
      exact vp_in_nI (by omega) (by omega)
    · have hv : ¬ bf_V e q w := by
        rcases bf_vis I.1 I.2.1 hw with z | z
        · exact absurd z.1 hc
        · exact z.2
      rw [mz_le] at hl
      obtain ⟨q', par', I'⟩ := bf_add I hw hv (by omega)
      exact xf_59 hJ d (w + 1) (e + 1) _ _ q' par' (by omega) I'
theorem xf_127 {post : Int32 → SX → Prop} {i e : Nat} {qu cm : Nat → Int32} {q par : Nat → Nat} (I : bf_H le i e qu cm q par) (hend : i = e ∨ bf_V e q 8)
    (h0 : ∀ R : Nat → Bool, R 7 = true → R 8 = false → mf_Cl le R → post 0 (wf, fl, ca, sb, ss, tb, ts, le, qu, cm, re, ta, rf, sg)) (h1 : bf_W le cm → post 1 (wf, fl, ca, sb, ss, tb, ts, le, qu, cm, re, ta, rf, sg)) : wX_findWay_127 post wf fl ca sb ss tb ts le qu cm re ta rf sg := by
  rcases bf_vis I.1 I.2.1 (show 8 < 9 by omega) with z | z
  · exact br_f (Int32.not_lt.mpr z.1) (h1 (bf_found I z.2))
  · have ie : i = e := by
      rcases hend with y | y
      · exact y
      · exact absurd y z.2
    subst ie
    obtain ⟨R, r7, r8, rc⟩ := bf_none I z.2
    refine br_t ?_ (h0 R r7 r8 rc)
    rw [z.1]
    decide
theorem xf_42 {post : Int32 → SX → Prop} (h0 : ∀ qu cm, ∀ R : Nat → Bool, R 7 = true → R 8 = false → mf_Cl le R → post 0 (wf, fl, ca, sb, ss, tb, ts, le, qu, cm, re, ta, rf, sg)) (h1 : ∀ qu cm, bf_W le cm → post 1 (wf, fl, ca, sb, ss, tb, ts, le, qu, cm, re, ta, rf, sg)) :
    ∀ d i e qu cm q par, i + d = 9 → bf_H le i e qu cm q par → wX_findWay_42 post wf fl (d + 1) (nI e) (nI i) ca sb ss tb ts le qu cm re ta rf sg
  | 0, i, e, qu, cm, q, par, h, I => by
    have he := bf_e9 I.1
    have hi := I.2.2.1
    exact br_t (nI_le (by omega) (by omega)) (xf_127 I (Or.inl (by omega)) (h0 qu cm) (h1 qu cm))
  | d + 1, i, e, qu, cm, q, par, h, I => by
    have he := bf_e9 I.1
    have hi := I.2.2.1
    rcases Nat.lt_or_ge i e with z | z
    · refine br_f (nI_ge z (by omega)) ?_
      rcases bf_vis I.1 I.2.1 (show 8 < 9 by omega) with y | y
      · exact br_t y.1 (xf_127 I (Or.inr y.2) (h0 qu cm) (h1 qu cm))
      · refine br_f (by rw [y.1]; decide) ⟨10, ?_⟩
        exact xf_59 (fun e' qu' cm' q' par' I' => xf_42 h0 h1 d (i + 1) e' qu' cm' q' par' (by omega) I') 9 0 e qu cm q par rfl (bf_HJ I z y.2)
    · exact br_t (nI_le z (by omega)) (xf_127 I (Or.inl (by omega)) (h0 qu cm) (h1 qu cm))
theorem bf_init {L qu cm : Nat → Int32} (h : ∀ v, v < 9 → cm v = -1) : bf_H L 0 1 (upd qu 0 7) (upd cm 7 7) (fun _ => 7) (fun _ => 0) := by
  refine ⟨⟨⟨by omega, rfl, rfl⟩, fun j _ => (by decide : 7 < 9), fun i j hi hj _ => by omega, fun j h1 h2 => by omega, pk_us⟩, ⟨?_, ?_, fun _ _ _ _ _ => Nat.le_refl _, fun j h1 h2 => by omega⟩, by omega, fun j h1 h2 => by omega, fun j hj => by omega⟩
  · intro j hj
    have e : j = 0 := by omega
    subst e
    exact pk_us
  · intro v hv hn
    rw [pk_un (fun z => hn ⟨0, by omega, z.symm⟩)]
    exact h v hv
theorem xf_2 {post : Int32 → SX → Prop} {qu : Nat → Int32} (h0 : ∀ qu cm, ∀ R : Nat → Bool, R 7 = true → R 8 = false → mf_Cl le R → post 0 (wf, fl, ca, sb, ss, tb, ts, le, qu, cm, re, ta, rf, sg)) (h1 : ∀ qu cm, bf_W le cm → post 1 (wf, fl, ca, sb, ss, tb, ts, le, qu, cm, re, ta, rf, sg)) :
    ∀ d k cm, k + d = 9 → (∀ v, v < k → cm v = -1) → wX_findWay_2 post wf fl (d + 1) (nI k) ca sb ss tb ts le qu cm re ta rf sg
  | 0, k, cm, h, I => by
    have e : k = 9 := by omega
    subst e
    exact br_t (by decide) (nm_e (nm_e ⟨10, xf_42 h0 h1 9 0 1 _ _ _ _ rfl (bf_init I)⟩))
  | d + 1, k, cm, h, I => by
    have ih := xf_2 (qu := qu) h0 h1 d (k + 1) (upd cm k (-1)) (by omega) (by
      intro v hv
      by_cases e : v = k
      · rw [e, pk_us]
      · rw [pk_un e]
        exact I v (by omega))
    refine br_f (nI_ge (b := 9) (by omega) (by decide)) ⟨vp_in_nI (by omega) (by omega), nm_r (e' := upd cm k (-1)) ?_ (nm_r (nI_1 k) ih)⟩
    rw [nI_clamp (by omega)]
theorem xf_find {post : Int32 → SX → Prop} {qu cm : Nat → Int32} (h0 : ∀ qu cm, ∀ R : Nat → Bool, R 7 = true → R 8 = false → mf_Cl le R → post 0 (wf, fl, ca, sb, ss, tb, ts, le, qu, cm, re, ta, rf, sg)) (h1 : ∀ qu cm, bf_W le cm → post 1 (wf, fl, ca, sb, ss, tb, ts, le, qu, cm, re, ta, rf, sg)) : wpX_findWay post (wf, fl, ca, sb, ss, tb, ts, le, qu, cm, re, ta, rf, sg) :=
  ⟨10, xf_2 h0 h1 9 0 cm rfl (fun v hv => absurd hv (Nat.not_lt_zero _))⟩
end
end
section
/-! narrowest and push along the way that the search found -/
theorem mo_ta {x y : Int32} (h1 : -2147483648 ≤ x.toInt + y.toInt) (h2 : x.toInt + y.toInt < 2147483648) : (x + y).toInt = x.toInt + y.toInt := by
  rw [Int32.toInt_add]
  exact Int.bmod_eq_of_le (by omega) (by omega)
theorem mo_ts {x y : Int32} (h1 : -2147483648 ≤ x.toInt - y.toInt) (h2 : x.toInt - y.toInt < 2147483648) : (x - y).toInt = x.toInt - y.toInt := by
  rw [Int32.toInt_sub]
  exact Int.bmod_eq_of_le (by omega) (by omega)
def mp_it (par : Nat → Nat) : Nat → Nat → Nat
  | 0, j => j
  | m + 1, j => mp_it par m (par j)
theorem mp_0 {par : Nat → Nat} (h : par 0 = 0) : ∀ m, mp_it par m 0 = 0
  | 0 => rfl
  | m + 1 => by
    show mp_it par m (par 0) = 0
    rw [h]
    exact mp_0 h m
theorem mp_le {par : Nat → Nat} {e : Nat} (h0 : par 0 = 0) (h : ∀ j, 1 ≤ j → j < e → par j < j) : ∀ m j, j < e → mp_it par m j ≤ j
  | 0, j, _ => Nat.le_refl _
  | m + 1, j, hj => by
    show mp_it par m (par j) ≤ j
    rcases Nat.eq_zero_or_pos j with z | z
    · rw [z, h0, mp_0 h0 m]
      exact Nat.le_refl _
    · have h1 := h j z hj
      have h2 := mp_le h0 h m (par j) (by omega)
      omega
def me_e (q par : Nat → Nat) (k : Nat) : Nat := q (par k) * 9 + q k
def mf_B (L : Nat → Int32) : Prop := ∀ a b, a < 9 → b < 9 → 0 ≤ (L (a * 9 + b)).toInt ∧ (L (a * 9 + b)).toInt + (L (b * 9 + a)).toInt ≤ 150000
theorem mf_BN {L : Nat → Int32} (h : mf_B L) : mf_NN L := fun a b ha hb => (h a b ha hb).1
def mq_L (L : Nat → Int32) (p v : Nat) (δ : Int32) : Nat → Int32 := upd (upd L (p * 9 + v) (L (p * 9 + v) - δ)) (v * 9 + p) (upd L (p * 9 + v) (L (p * 9 + v) - δ) (v * 9 + p) + δ)
theorem mq_s3 {L : Nat → Int32} {p v a b : Nat} {δ : Int32} (ha : a < 9) (hb : b < 9) (hp : p < 9) (hv : v < 9) (h1 : ¬ (a = p ∧ b = v)) (h2 : ¬ (a = v ∧ b = p)) : mq_L L p v δ (a * 9 + b) = L (a * 9 + b) := by
  unfold mq_L
  rw [pk_un (by omega), pk_un (by omega)]
theorem mq_s1 {L : Nat → Int32} {p v : Nat} {δ : Int32} (hp : p < 9) (hv : v < 9) (hne : p ≠ v) (hB : mf_B L) (h0 : 0 < δ.toInt) (hδ : δ.toInt ≤ (L (p * 9 + v)).toInt) : (mq_L L p v δ (p * 9 + v)).toInt = (L (p * 9 + v)).toInt - δ.toInt := by
  have b := hB p v hp hv
  have b2 := hB v p hv hp
  unfold mq_L
  rw [pk_un (by omega), pk_us]
  exact mo_ts (by omega) (by omega)
theorem mq_s2 {L : Nat → Int32} {p v : Nat} {δ : Int32} (hp : p < 9) (hv : v < 9) (hne : p ≠ v) (hB : mf_B L) (h0 : 0 < δ.toInt) (hδ : δ.toInt ≤ (L (p * 9 + v)).toInt) : (mq_L L p v δ (v * 9 + p)).toInt = (L (v * 9 + p)).toInt + δ.toInt := by
  have b := hB p v hp hv
  have b2 := hB v p hv hp
  unfold mq_L
  rw [pk_us, pk_un (by omega)]
  exact mo_ta (by omega) (by omega)
theorem mq_B {L : Nat → Int32} {p v : Nat} {δ : Int32} (hp : p < 9) (hv : v < 9) (hne : p ≠ v) (hB : mf_B L) (h0 : 0 < δ.toInt) (hδ : δ.toInt ≤ (L (p * 9 + v)).toInt) : mf_B (mq_L L p v δ) := by
  have s1 := mq_s1 hp hv hne hB h0 hδ
  have s2 := mq_s2 hp hv hne hB h0 hδ
  have b1 := hB p v hp hv
  have b2 := hB v p hv hp
  intro a b ha hb
  by_cases h1 : a = p ∧ b = v
  · rw [h1.1, h1.2, s1, s2]
    omega
  · by_cases h2 : a = v ∧ b = p
    · rw [h2.1, h2.2, s1, s2]
      omega
    · rw [mq_s3 ha hb hp hv h1 h2, mq_s3 hb ha hp hv (fun z => h2 ⟨z.2, z.1⟩) (fun z => h1 ⟨z.2, z.1⟩)]
      exact hB a b ha hb
theorem mq_cut {L : Nat → Int32} {p v : Nat} {δ : Int32} (hp : p < 9) (hv : v < 9) (hne : p ≠ v) (hB : mf_B L) (h0 : 0 < δ.toInt) (hδ : δ.toInt ≤ (L (p * 9 + v)).toInt) (S : Nat → Bool) :
    mf_cut (mq_L L p v δ) S = mf_cut L S + (if S v = true then δ.toInt else 0) - (if S p = true then δ.toInt else 0) := by
  have s1 := mq_s1 hp hv hne hB h0 hδ
  have s2 := mq_s2 hp hv hne hB h0 hδ
  have e1 : (L (p * 9 + v) - δ).toInt = (L (p * 9 + v)).toInt - δ.toInt := by
    rw [← s1]
    unfold mq_L
    rw [pk_un (by omega), pk_us]
  have e2 : (L (v * 9 + p) + δ).toInt = (L (v * 9 + p)).toInt + δ.toInt := by
    rw [← s2]
    unfold mq_L
    rw [pk_us, pk_un (by omega)]
  unfold mq_L
  rw [mf_cut_u hv hp, mf_cut_u hp hv, pk_un (show v * 9 + p ≠ p * 9 + v by omega), e1, e2]
  cases S p <;> cases S v <;> simp <;> omega
def mq_R (δ : Int) (q par : Nat → Nat) (j : Nat) (L L' : Nat → Int32) : Prop :=
  mf_B L' ∧ (∀ S : Nat → Bool, mf_cut L' S = mf_cut L S + (if S (q j) = true then δ else 0) - (if S 7 = true then δ else 0)) ∧
  (∀ b, b < 9 → (L' (63 + b)).toInt ≤ (L (63 + b)).toInt) ∧ (∀ a, a < 9 → (L' (a * 9 + 8)).toInt ≤ (L (a * 9 + 8)).toInt) ∧
  (∀ m, mp_it par m j ≠ 0 → (L' (me_e q par (mp_it par m j))).toInt = (L (me_e q par (mp_it par m j))).toInt - δ) ∧
  (∀ a b, a < 9 → b < 9 → L' (a * 9 + b) = L (a * 9 + b) ∨ ∃ m, mp_it par m j ≠ 0 ∧ ((a = q (par (mp_it par m j)) ∧ b = q (mp_it par m j)) ∨ (b = q (par (mp_it par m j)) ∧ a = q (mp_it par m j))))
theorem mq_0 {δ : Int} {q par : Nat → Nat} {L : Nat → Int32} (hB : mf_B L) (h0 : par 0 = 0) (h7 : q 0 = 7) : mq_R δ q par 0 L L := by
  refine ⟨hB, fun S => ?_, fun _ _ => Int.le_refl _, fun _ _ => Int.le_refl _, fun m hm => absurd (mp_0 h0 m) hm, fun _ _ _ _ => Or.inl rfl⟩
  rw [h7]
  omega
theorem mq_keep {L0 L cm : Nat → Int32} {e j k : Nat} {q par : Nat → Nat} {δ : Int32} (I : bf_I L0 e cm q par) (hj : j < e) (hk1 : 1 ≤ k) (hk : k < j) :
    mq_L L (q (par j)) (q j) δ (me_e q par k) = L (me_e q par k) := by
  have pj := (I.2.2.2.1 j (by omega) hj).1
  have pk := (I.2.2.2.1 k hk1 (by omega)).1
  unfold me_e
  apply mq_s3 (I.2.1 _ (by omega)) (I.2.1 _ (by omega)) (I.2.1 _ (by omega)) (I.2.1 _ (by omega))
  · intro z
    have := I.2.2.1 k j (by omega) hj z.2
    omega
  · intro z
    have := I.2.2.1 (par k) j (by omega) hj z.1
    omega
theorem mq_s {L0 L L' cm : Nat → Int32} {e j : Nat} {q par : Nat → Nat} {δ : Int32} (I : bf_I L0 e cm q par) (hj1 : 1 ≤ j) (hj : j < e) (hB : mf_B L) (h0 : 0 < δ.toInt)
    (hδ : δ.toInt ≤ (L (me_e q par j)).toInt) (R : mq_R δ.toInt q par (par j) (mq_L L (q (par j)) (q j) δ) L') : mq_R δ.toInt q par j L L' := by
  have pj := I.2.2.2.1 j hj1 hj
  have hp : q (par j) < 9 := I.2.1 _ (by omega)
  have hv : q j < 9 := I.2.1 _ hj
  have hne : q (par j) ≠ q j := fun z => by
    have := I.2.2.1 (par j) j (by omega) hj z
    omega
  have hq7 : q j ≠ 7 := fun z => by
    have := I.2.2.1 j 0 hj (by omega) (z.trans I.1.2.1.symm)
    omega
  have hitle : ∀ m, mp_it par m (par j) ≤ par j := fun m => mp_le I.1.2.2 (fun k k1 k2 => (I.2.2.2.1 k k1 k2).1) m (par j) (by omega)
  have s1 := mq_s1 hp hv hne hB h0 hδ
  have s2 := mq_s2 hp hv hne hB h0 hδ
  obtain ⟨r1, r2, r3, r4, r5, r6⟩ := R
  refine ⟨r1, ?_, ?_, ?_, ?_, ?_⟩
  · intro S
    rw [r2 S, mq_cut hp hv hne hB h0 hδ S]
    omega
  · intro b hb
    refine Int.le_trans (r3 b hb) ?_
    show (mq_L L (q (par j)) (q j) δ (7 * 9 + b)).toInt ≤ (L (7 * 9 + b)).toInt
    by_cases h1 : 7 = q (par j) ∧ b = q j
    · rw [h1.1, h1.2, s1]
      omega
    · rw [mq_s3 (by omega) hb hp hv h1 (fun z => hq7 z.1.symm)]
      exact Int.le_refl _
  · intro a ha
    refine Int.le_trans (r4 a ha) ?_
    by_cases h1 : a = q (par j) ∧ 8 = q j
    · rw [h1.1, h1.2, s1]
      omega
    · rw [mq_s3 ha (by omega) hp hv h1 (fun z => pj.2.2.2 z.2.symm)]
      exact Int.le_refl _
  · intro m hm
    cases m with
    | zero =>
      show (L' (q (par j) * 9 + q j)).toInt = (L (q (par j) * 9 + q j)).toInt - δ.toInt
      rcases r6 (q (par j)) (q j) hp hv with z | ⟨m, hm0, z⟩
      · rw [z, s1]
      · have hle := hitle m
        generalize mp_it par m (par j) = k at hm0 z hle
        have pk := (I.2.2.2.1 k (by omega) (by omega)).1
        rcases z with z | z
        · have := I.2.2.1 j k hj (by omega) z.2
          omega
        · have := I.2.2.1 j (par k) hj (by omega) z.1
          omega
    | succ m =>
      have hm' : mp_it par m (par j) ≠ 0 := hm
      show (L' (me_e q par (mp_it par m (par j)))).toInt = (L (me_e q par (mp_it par m (par j)))).toInt - δ.toInt
      have hle := hitle m
      rw [r5 m hm', mq_keep I hj (by omega) (by omega)]
  · intro a b ha hb
    rcases r6 a b ha hb with z | ⟨m, hm0, z⟩
    · by_cases h1 : a = q (par j) ∧ b = q j
      · exact Or.inr ⟨0, by show j ≠ 0; omega, Or.inl h1⟩
      · by_cases h2 : a = q j ∧ b = q (par j)
        · exact Or.inr ⟨0, by show j ≠ 0; omega, Or.inr ⟨h2.2, h2.1⟩⟩
        · rw [z, mq_s3 ha hb hp hv h1 h2]
          exact Or.inl rfl
    · exact Or.inr ⟨m + 1, hm0, z⟩
section
variable {wf fl : Int32} {ca sb ss tb ts le qu cm re ta rf sg : Nat → Int32}
theorem xn_8 {post : Int32 → Prop} {e : Nat} {q par : Nat → Nat} (I : bf_I le e cm q par) : ∀ (n j t : Nat) (x1 : Int32), j < n → j < e → t + j ≤ 8 →
    (∀ r : Int32, r.toInt ≤ x1.toInt → (0 < x1.toInt → 0 < r.toInt) → (∀ m, mp_it par m j ≠ 0 → r.toInt ≤ (le (me_e q par (mp_it par m j))).toInt) → (r = x1 ∨ ∃ m, mp_it par m j ≠ 0 ∧ r = le (me_e q par (mp_it par m j))) → post r) →
    wX_narrowest_8 post wf fl ca sb ss tb ts le qu cm re ta rf sg n x1 (nI (q j)) (nI t)
  | 0, j, t, x1, hn, _, _, _ => absurd hn (Nat.not_lt_zero _)
  | n + 1, j, t, x1, hn, he, ht, hp => by
    by_cases j0 : j = 0
    · subst j0
      exact br_f (nI_ge (b := 9) (by omega) (by decide)) (br_t (by rw [I.1.2.1]; rfl) (hp x1 (Int.le_refl _) id (fun m hm => absurd (mp_0 I.1.2.2 m) hm) (Or.inl rfl)))
    · have pj := I.2.2.2.1 j (by omega) he
      have hpq : q (par j) < 9 := I.2.1 _ (by omega)
      have hv : q j < 9 := I.2.1 _ he
      have ev : (nI (q j)).toNatClampNeg = q j := nI_clamp (by omega)
      have hx : (nI (q (par j) * 9 + q j)).toNatClampNeg = q (par j) * 9 + q j := nI_clamp (by omega)
      have hq7 : ¬ nI (q j) = 7 := by
        show ¬ nI (q j) = nI 7
        rw [nI_eq (by omega) (by omega)]
        intro z
        have := I.2.2.1 j 0 he (by omega) (z.trans I.1.2.1.symm)
        omega
      have vj : vp_in (nI (q j)) 9 := vp_in_nI hv (by omega)
      rw [wX_narrowest_8]
      dsimp only
      rw [ev, pj.2.1, mi_9, hx]
      refine br_f (nI_ge (b := 9) (by omega) (by decide)) (br_f hq7 ⟨vj, vp_in_nI (by omega) (by omega), nm_e (br_c (fun hl => ⟨vj, nm_e (nm_r (nI_1 t) ?_)⟩) (fun hl => ⟨vj, nm_e (nm_r (nI_1 t) ?_)⟩))⟩)
      · rw [Int32.le_iff_toInt_le] at hl
        refine xn_8 I n (par j) (t + 1) x1 (by omega) (by omega) (by omega) (fun r h1 h2 h3 h4 => hp r h1 h2 (fun m hm => ?_) ?_)
        · cases m with
          | zero => exact Int.le_trans h1 hl
          | succ m => exact h3 m hm
        · rcases h4 with z | ⟨m, hm, z⟩
          · exact Or.inl z
          · exact Or.inr ⟨m + 1, hm, z⟩
      · rw [Int32.le_iff_toInt_le] at hl
        refine xn_8 I n (par j) (t + 1) _ (by omega) (by omega) (by omega) (fun r h1 h2 h3 h4 => hp r (by omega) (fun _ => h2 pj.2.2.1) (fun m hm => ?_) ?_)
        · cases m with
          | zero => exact h1
          | succ m => exact h3 m hm
        · rcases h4 with z | ⟨m, hm, z⟩
          · exact Or.inr ⟨0, j0, z⟩
          · exact Or.inr ⟨m + 1, hm, z⟩
theorem xn_nar {post : Int32 → Prop} {e j8 : Nat} {q par : Nat → Nat} (I : bf_I le e cm q par) (hj : j8 < e) (h8 : q j8 = 8) (hB : mf_B le)
    (hp : ∀ r : Int32, 0 < r.toInt → (∀ m, mp_it par m j8 ≠ 0 → r.toInt ≤ (le (me_e q par (mp_it par m j8))).toInt) → (∃ m, mp_it par m j8 ≠ 0 ∧ r = le (me_e q par (mp_it par m j8))) → post r) : wpX_narrowest post (wf, fl, ca, sb, ss, tb, ts, le, qu, cm, re, ta, rf, sg) := by
  have he := bf_e9 I
  have j0 : j8 ≠ 0 := fun z => by
    rw [z, I.1.2.1] at h8
    omega
  have e2 : (200000 : Int32).toInt = 200000 := by decide
  have k := xn_8 (post := post) (wf := wf) (fl := fl) (ca := ca) (sb := sb) (ss := ss) (tb := tb) (ts := ts) (qu := qu) (re := re) (ta := ta) (rf := rf) (sg := sg) I 10 j8 0 200000 (by omega) hj (by omega) (fun r h1 h2 h3 h4 => hp r (h2 (by rw [e2]; decide)) h3 (by
    rcases h4 with z | z
    · have a1 := h3 0 j0
      have pj := I.2.2.2.1 j8 (by omega) hj
      have a2 := (hB (q (par j8)) (q j8) (I.2.1 _ (by omega)) (I.2.1 _ hj)).2
      have a3 := (hB (q j8) (q (par j8)) (I.2.1 _ hj) (I.2.1 _ (by omega))).1
      have a4 : r.toInt ≤ (le (q (par j8) * 9 + q j8)).toInt := a1
      rw [z, e2] at a4
      omega
    · exact z))
  rw [h8] at k
  exact ⟨10, k⟩
theorem xq_5 {post : SX → Prop} {δ : Int32} {L0 : Nat → Int32} {e : Nat} {q par : Nat → Nat} (I : bf_I L0 e cm q par) (h0 : 0 < δ.toInt) : ∀ (n j t : Nat) (L : Nat → Int32), j < n → j < e → t + j ≤ 8 → mf_B L →
    (∀ m, mp_it par m j ≠ 0 → δ.toInt ≤ (L (me_e q par (mp_it par m j))).toInt) → (∀ L', mq_R δ.toInt q par j L L' → post (wf, fl, ca, sb, ss, tb, ts, L', qu, cm, re, ta, rf, sg)) → wX_push_5 post δ wf fl n (nI (q j)) (nI t) ca sb ss tb ts L qu cm re ta rf sg
  | 0, j, t, L, hn, _, _, _, _, _ => absurd hn (Nat.not_lt_zero _)
  | n + 1, j, t, L, hn, he, ht, hB, hm, hp => by
    by_cases j0 : j = 0
    · subst j0
      exact br_f (nI_ge (b := 9) (by omega) (by decide)) (br_t (by rw [I.1.2.1]; rfl) (hp L (mq_0 hB I.1.2.2 I.1.2.1)))
    · have pj := I.2.2.2.1 j (by omega) he
      have hpq : q (par j) < 9 := I.2.1 _ (by omega)
      have hv : q j < 9 := I.2.1 _ he
      have hne : q (par j) ≠ q j := fun z => by
        have := I.2.2.1 (par j) j (by omega) he z
        omega
      have ev : (nI (q j)).toNatClampNeg = q j := nI_clamp (by omega)
      have hx : (nI (q (par j) * 9 + q j)).toNatClampNeg = q (par j) * 9 + q j := nI_clamp (by omega)
      have hy : (nI (q j * 9 + q (par j))).toNatClampNeg = q j * 9 + q (par j) := nI_clamp (by omega)
      have hq7 : ¬ nI (q j) = 7 := by
        show ¬ nI (q j) = nI 7
        rw [nI_eq (by omega) (by omega)]
        intro z
        have := I.2.2.1 j 0 he (by omega) (z.trans I.1.2.1.symm)
        omega
      have vj : vp_in (nI (q j)) 9 := vp_in_nI hv (by omega)
      have vx : vp_in (nI (q (par j) * 9 + q j)) 81 := vp_in_nI (by omega) (by omega)
      have vy : vp_in (nI (q j * 9 + q (par j))) 81 := vp_in_nI (by omega) (by omega)
      have hδ : δ.toInt ≤ (L (me_e q par j)).toInt := hm 0 j0
      have hitle : ∀ m, mp_it par m (par j) ≤ par j := fun m => mp_le I.1.2.2 (fun k k1 k2 => (I.2.2.2.1 k k1 k2).1) m (par j) (by omega)
      have ih := xq_5 I h0 n (par j) (t + 1) (mq_L L (q (par j)) (q j) δ) (by omega) (by omega) (by omega) (mq_B hpq hv hne hB h0 hδ) (by
        intro m hm0
        have := hitle m
        rw [mq_keep I he (by omega) (by omega)]
        exact hm (m + 1) hm0) (fun L' R => hp L' (mq_s I (by omega) he hB h0 hδ R))
      rw [wX_push_5]
      dsimp only
      rw [ev, pj.2.1, mi_9, mi_9, hx, hy]
      exact br_f (nI_ge (b := 9) (by omega) (by decide)) (br_f hq7 ⟨vj, vx, vx, nm_e ⟨vj, vy, vy, nm_e ⟨vj, nm_e (nm_r (nI_1 t) ih)⟩⟩⟩)
theorem xq_push {post : SX → Prop} {δ : Int32} {e j8 : Nat} {q par : Nat → Nat} (I : bf_I le e cm q par) (hj : j8 < e) (h8 : q j8 = 8) (hB : mf_B le) (h0 : 0 < δ.toInt)
    (hm : ∀ m, mp_it par m j8 ≠ 0 → δ.toInt ≤ (le (me_e q par (mp_it par m j8))).toInt) (hp : ∀ L', mq_R δ.toInt q par j8 le L' → post (wf, fl, ca, sb, ss, tb, ts, L', qu, cm, re, ta, rf, sg)) : wpX_push post (wf, fl, ca, sb, ss, tb, ts, le, qu, cm, re, ta, rf, sg) δ := by
  have he := bf_e9 I
  have k := xq_5 (post := post) (wf := wf) (fl := fl) (ca := ca) (sb := sb) (ss := ss) (tb := tb) (ts := ts) (qu := qu) (re := re) (ta := ta) (rf := rf) (sg := sg) I h0 10 j8 0 le (by omega) hj (by omega) hB hm hp
  rw [h8] at k
  exact ⟨10, k⟩
end
end
section
/-! grow: at most 7 rounds by ways of length two, then every round lowers a cut of at most 980 -/
def mg_d (L : Nat → Int32) (w : Nat) : Int := if 0 < (L (63 + w)).toInt ∧ 0 < (L (w * 9 + 8)).toInt then 1 else 0
def mg_nd (L : Nat → Int32) : Int := mf_sm (mg_d L) 7
theorem mg_d01 (L : Nat → Int32) (w : Nat) : 0 ≤ mg_d L w ∧ mg_d L w ≤ 1 := by
  unfold mg_d
  split <;> decide
theorem mg_nd0 (L : Nat → Int32) : 0 ≤ mg_nd L := mf_sm_n 7 (fun i _ => (mg_d01 L i).1)
def mg_P (L : Nat → Int32) (i : Nat) : Prop :=
  ((i : Int) + mg_nd L ≤ 7 ∧ ∀ a b, a < 7 → b < 7 → (L (a * 9 + b)).toInt ≤ 20) ∨ ∃ S : Nat → Bool, S 7 = true ∧ S 8 = false ∧ (i : Int) + mf_cut L S ≤ 987
def mg_I (L0 L : Nat → Int32) (f : Int) (i : Nat) : Prop :=
  mf_B L ∧ (L 71).toInt = 0 ∧ 0 ≤ f ∧ (∀ S : Nat → Bool, S 7 = true → S 8 = false → mf_cut L S + f = mf_cut L0 S) ∧ mg_P L i
theorem mg_cutB {L : Nat → Int32} (h71 : (L 71).toInt = 0) (hd : ∀ w, w < 7 → ¬ (0 < (L (63 + w)).toInt ∧ 0 < (L (w * 9 + 8)).toInt))
    (h20 : ∀ a b, a < 7 → b < 7 → (L (a * 9 + b)).toInt ≤ 20) : ∃ S : Nat → Bool, S 7 = true ∧ S 8 = false ∧ mf_cut L S ≤ 980 := by
  refine ⟨fun w => if w < 7 then decide (0 < (L (63 + w)).toInt) else w == 7, rfl, rfl, ?_⟩
  generalize hS : (fun w : Nat => if w < 7 then decide (0 < (L (63 + w)).toInt) else w == 7) = S
  have hSl : ∀ w, w < 7 → S w = decide (0 < (L (63 + w)).toInt) := by
    intro w hw
    rw [← hS]
    exact if_pos hw
  have h7 : S 7 = true := by
    rw [← hS]
    rfl
  have h8 : S 8 = false := by
    rw [← hS]
    rfl
  have key : ∀ a b, a < 9 → b < 9 → mf_g L S a b ≤ (if a < 7 ∧ b < 7 then 20 else 0) := by
    intro a b ha hb
    by_cases h : a < 7 ∧ b < 7
    · rw [if_pos h]
      unfold mf_g
      split
      · exact h20 a b h.1 h.2
      · decide
    · rw [if_neg h]
      unfold mf_g
      split
      · rename_i hx
        rw [Bool.and_eq_true, Bool.not_eq_true'] at hx
        by_cases a7 : a < 7
        · by_cases b7 : b = 7
          · rw [b7, h7] at hx
            exact absurd hx.2 (by decide)
          · have b8 : b = 8 := by omega
            have p1 := hx.1
            rw [hSl a a7] at p1
            have p2 := of_decide_eq_true p1
            have p3 := hd a a7
            rw [b8]
            omega
        · by_cases a8 : a = 8
          · rw [a8, h8] at hx
            exact absurd hx.1 (by decide)
          · have e7 : a = 7 := by omega
            rw [e7]
            by_cases b7 : b < 7
            · have p1 := hx.2
              rw [hSl b b7] at p1
              have p2 := of_decide_eq_false p1
              show (L (63 + b)).toInt ≤ 0
              omega
            · by_cases b8 : b = 8
              · rw [b8]
                show (L 71).toInt ≤ 0
                omega
              · have b7' : b = 7 := by omega
                rw [b7', h7] at hx
                exact absurd hx.2 (by decide)
      · exact Int.le_refl _
  have s : mf_cut L S ≤ mf_sm (fun a => mf_sm (fun b => if a < 7 ∧ b < 7 then 20 else 0) 9) 9 := mf_sm_le 9 (fun a ha => mf_sm_le 9 (fun b hb => key a b ha hb))
  exact Int.le_trans s (by decide +kernel)
theorem mg_step {L0 L L' cm : Nat → Int32} {f : Int} {i e j8 : Nat} {q par : Nat → Nat} {r : Int32} (I : bf_I L e cm q par) (hj : j8 < e) (h8 : q j8 = 8)
    (hd : ∀ w, w < 7 → 0 < (L (63 + w)).toInt → 0 < (L (w * 9 + 8)).toInt → (L 71).toInt = 0 → 1 ≤ par j8 ∧ par (par j8) = 0) (h0 : 0 < r.toInt)
    (hx : ∃ m, mp_it par m j8 ≠ 0 ∧ r = L (me_e q par (mp_it par m j8))) (R : mq_R r.toInt q par j8 L L') (G : mg_I L0 L f i) : mg_I L0 L' (f + r.toInt) (i + 1) := by
  obtain ⟨g1, g2, g3, g4, g5⟩ := G
  obtain ⟨r1, r2, r3, r4, r5, r6⟩ := R
  have cutd : ∀ S : Nat → Bool, S 7 = true → S 8 = false → mf_cut L' S = mf_cut L S - r.toInt := by
    intro S s7 s8
    have a := r2 S
    rw [h8, s7, s8, if_neg (by decide), if_pos rfl] at a
    omega
  refine ⟨r1, ?_, by omega, ?_, ?_⟩
  · have a : (L' 71).toInt ≤ (L 71).toInt := r3 8 (by omega)
    have b : 0 ≤ (L' 71).toInt := (r1 7 8 (by omega) (by omega)).1
    omega
  · intro S s7 s8
    have a := g4 S s7 s8
    have b := cutd S s7 s8
    omega
  · have toB : (∃ S : Nat → Bool, S 7 = true ∧ S 8 = false ∧ (i : Int) + mf_cut L S ≤ 987) → mg_P L' (i + 1) := by
      intro h
      obtain ⟨S, s7, s8, hs⟩ := h
      refine Or.inr ⟨S, s7, s8, ?_⟩
      have b := cutd S s7 s8
      omega
    rcases g5 with ⟨hA, h20⟩ | hB
    · by_cases hdir : ∃ w, w < 7 ∧ 0 < (L (63 + w)).toInt ∧ 0 < (L (w * 9 + 8)).toInt
      · obtain ⟨w, hw, l1, l2⟩ := hdir
        obtain ⟨p1, pp0⟩ := hd w hw l1 l2 g2
        have j0 : 1 ≤ j8 := by
          rcases Nat.eq_zero_or_pos j8 with z | z
          · rw [z, I.1.2.1] at h8
            omega
          · exact z
        have k8 := I.2.2.2.1 j8 j0 hj
        have kp := I.2.2.2.1 (par j8) p1 (by omega)
        have dn7 : q (par j8) ≠ 7 := fun z => by
          have := I.2.2.1 (par j8) 0 (by omega) (by omega) (z.trans I.1.2.1.symm)
          omega
        have d9 := I.2.1 (par j8) (by omega)
        have d7 : q (par j8) < 7 := by
          have := k8.2.2.2
          omega
        have it2 : ∀ m, mp_it par m j8 ≠ 0 → mp_it par m j8 = j8 ∨ mp_it par m j8 = par j8 := by
          intro m hm
          match m, hm with
          | 0, _ => exact Or.inl rfl
          | 1, _ => exact Or.inr rfl
          | m + 2, hm =>
            have z : mp_it par (m + 2) j8 = 0 := by
              show mp_it par m (par (par j8)) = 0
              rw [pp0]
              exact mp_0 I.1.2.2 m
            exact absurd z hm
        have e8 : me_e q par j8 = q (par j8) * 9 + 8 := by
          unfold me_e
          rw [h8]
        have ep : me_e q par (par j8) = 63 + q (par j8) := by
          unfold me_e
          rw [pp0, I.1.2.1]
        have zr : (L' (63 + q (par j8))).toInt = 0 ∨ (L' (q (par j8) * 9 + 8)).toInt = 0 := by
          obtain ⟨m, hm, er⟩ := hx
          have a := r5 m hm
          rw [← er] at a
          rcases it2 m hm with z | z
          · rw [z, e8] at a
            exact Or.inr (by omega)
          · rw [z, ep] at a
            exact Or.inl (by omega)
        refine Or.inl ⟨?_, ?_⟩
        · have a1 : mg_d L (q (par j8)) = 1 := by
            refine if_pos ⟨?_, ?_⟩
            · have := kp.2.2.1
              rw [pp0, I.1.2.1] at this
              exact this
            · have := k8.2.2.1
              rw [h8] at this
              exact this
          have a2 : mg_d L' (q (par j8)) = 0 := if_neg (by omega)
          have a3 : ∀ w, w < 7 → mg_d L' w ≤ mg_d L w := by
            intro w hw
            have b1 := r3 w (by omega)
            have b2 := r4 w (by omega)
            unfold mg_d
            by_cases z : 0 < (L' (63 + w)).toInt ∧ 0 < (L' (w * 9 + 8)).toInt
            · rw [if_pos z, if_pos (by omega)]
              exact Int.le_refl _
            · rw [if_neg z]
              split <;> decide
          have a4 : mg_nd L' ≤ mf_sm (fun w => if w = q (par j8) then 0 else mg_d L w) 7 := by
            apply mf_sm_le
            intro w hw
            by_cases z : w = q (par j8)
            · rw [if_pos z, z, a2]
              exact Int.le_refl _
            · rw [if_neg z]
              exact a3 w hw
          have a5 := mf_sm_u (f := mg_d L) (g := fun w => if w = q (par j8) then 0 else mg_d L w) (k := q (par j8)) 7 d7 (fun w _ hne => if_neg hne)
          have a6 : (if q (par j8) = q (par j8) then (0 : Int) else mg_d L (q (par j8))) = 0 := if_pos rfl
          rw [a6, a1] at a5
          have a7 : mg_nd L = mf_sm (mg_d L) 7 := rfl
          omega
        · intro a b ha hb
          rcases r6 a b (by omega) (by omega) with z | ⟨m, hm, z⟩
          · rw [z]
            exact h20 a b ha hb
          · rcases it2 m hm with y | y
            · rw [y, h8] at z
              omega
            · rw [y, pp0, I.1.2.1] at z
              omega
      · apply toB
        obtain ⟨S, s7, s8, hs⟩ := mg_cutB g2 (fun w hw z => hdir ⟨w, hw, z⟩) h20
        have := mg_nd0 L
        exact ⟨S, s7, s8, by omega⟩
    · exact toB hB
theorem mg_i {L0 L : Nat → Int32} {f : Int} {i : Nat} (G : mg_I L0 L f i) : i ≤ 987 := by
  rcases G.2.2.2.2 with ⟨a, _⟩ | ⟨S, _, _, a⟩
  · have := mg_nd0 L
    omega
  · have := mf_cut_n (S := S) (mf_BN G.1)
    omega
theorem mg_max {L : Nat → Int32} (hB : mf_B L) (S : Nat → Bool) : mf_cut L S ≤ 12150000 := by
  have a : ∀ a, a < 9 → mf_sm (fun b => mf_g L S a b) 9 ≤ 1350000 := by
    intro a ha
    have b := mf_sm_b (f := fun b => mf_g L S a b) (c := 150000) 9 (by
      intro b hb
      show mf_g L S a b ≤ 150000
      have k1 := hB a b ha hb
      have k2 := hB b a hb ha
      unfold mf_g
      split
      · omega
      · decide)
    exact b
  exact mf_sm_b (f := fun a => mf_sm (fun b => mf_g L S a b) 9) (c := 1350000) 9 a
def mg_Z (L0 L : Nat → Int32) (f : Int) : Prop :=
  mf_NN L ∧ (∀ S : Nat → Bool, S 7 = true → S 8 = false → mf_cut L S + f = mf_cut L0 S) ∧ ∃ R : Nat → Bool, R 7 = true ∧ R 8 = false ∧ mf_Cl L R
section
variable {wf fl : Int32} {ca sb ss tb ts le qu cm re ta rf sg : Nat → Int32}
theorem xg_12 {post : SX → Prop} {L0 : Nat → Int32} (hL : mf_B L0) (hp : ∀ (fl : Int32) (le qu cm : Nat → Int32), mg_Z L0 le fl.toInt → post (wf, fl, ca, sb, ss, tb, ts, le, qu, cm, re, ta, rf, sg)) :
    ∀ (n i : Nat) (x1 fl : Int32) (le qu cm : Nat → Int32), 988 ≤ n + i → mg_I L0 le fl.toInt i →
      ((x1 = 0 ∧ ∃ R : Nat → Bool, R 7 = true ∧ R 8 = false ∧ mf_Cl le R) ∨ (x1 = 1 ∧ bf_W le cm)) → wX_grow_12 post n x1 (nI i) wf fl ca sb ss tb ts le qu cm re ta rf sg
  | 0, i, x1, fl, le, qu, cm, hn, G, _ => by
    have := mg_i G
    omega
  | n + 1, i, x1, fl, le, qu, cm, hn, G, hc => by
    have hi := mg_i G
    refine br_f (nI_ge (b := 1000) (by omega) (by decide)) ?_
    rcases hc with ⟨rfl, hR⟩ | ⟨rfl, hW⟩
    · exact br_t rfl (hp fl le qu cm ⟨mf_BN G.1, G.2.2.2.1, hR⟩)
    · obtain ⟨e, q, par, j8, I, hj, h8, hd⟩ := hW
      refine br_f (by decide) (xn_nar I hj h8 G.1 (fun r h0 hm hx => xq_push I hj h8 G.1 h0 hm (fun L' R => nm_e ?_)))
      have G1 := mg_step I hj h8 hd h0 hx R G
      have b1 := G1.2.2.2.1 (fun v => v == 7) rfl rfl
      have b2 := mf_cut_n (S := fun v => v == 7) (mf_BN G1.1)
      have b3 := mg_max hL (fun v => v == 7)
      have b4 := G.2.2.1
      have e1 : (fl + r).toInt = fl.toInt + r.toInt := mo_ta (by omega) (by omega)
      rw [← e1] at G1
      exact xf_find (fun qu' cm' R r7 r8 rc => nm_r (nI_1 i) (xg_12 hL hp n (i + 1) 0 (fl + r) L' qu' cm' (by omega) G1 (Or.inl ⟨rfl, R, r7, r8, rc⟩)))
        (fun qu' cm' W => nm_r (nI_1 i) (xg_12 hL hp n (i + 1) 1 (fl + r) L' qu' cm' (by omega) G1 (Or.inr ⟨rfl, W⟩)))
theorem xg_grow {post : SX → Prop} (hB : mf_B le) (h71 : (le 71).toInt = 0) (h20 : ∀ a b, a < 7 → b < 7 → (le (a * 9 + b)).toInt ≤ 20)
    (hp : ∀ (fl : Int32) (L qu cm : Nat → Int32), mg_Z le L fl.toInt → post (wf, fl, ca, sb, ss, tb, ts, L, qu, cm, re, ta, rf, sg)) : wpX_grow post (wf, fl, ca, sb, ss, tb, ts, le, qu, cm, re, ta, rf, sg) := by
  have G : mg_I le le (0 : Int32).toInt 0 := by
    rw [Int32.toInt_zero]
    refine ⟨hB, h71, Int.le_refl _, fun S _ _ => Int.add_zero _, Or.inl ⟨?_, h20⟩⟩
    have := mf_sm_b (f := mg_d le) (c := 1) 7 (fun i _ => (mg_d01 le i).2)
    have e : mg_nd le = mf_sm (mg_d le) 7 := rfl
    omega
  unfold wpX_grow
  exact xf_find (fun qu' cm' R r7 r8 rc => ⟨988, xg_12 hB hp 988 0 0 0 le qu' cm' (by omega) G (Or.inl ⟨rfl, R, r7, r8, rc⟩)⟩)
    (fun qu' cm' W => ⟨988, xg_12 hB hp 988 0 1 0 le qu' cm' (by omega) G (Or.inr ⟨rfl, W⟩)⟩)
end
end
section
/-! closeReach: what each place reaches along what is left -/
def wk_K (L re : Nat → Int32) (K : Nat) : Prop :=
  (∀ u, u < 9 → bt (re u) u = true) ∧ (∀ u v, u < 9 → v < 9 → 0 < (L (u * 9 + v)).toInt → bt (re u) v = true) ∧
  (∀ S : Nat → Bool, mf_Cl L S → ∀ u v, u < 9 → v < 9 → S u = true → bt (re u) v = true → S v = true) ∧
  (∀ k, k < K → ∀ u v, u < 9 → v < 9 → bt (re u) k = true → bt (re k) v = true → bt (re u) v = true)
theorem wk_step {L re0 re : Nat → Int32} {k : Nat} (hk : k < 9) (h : wk_K L re0 k)
    (f : ∀ u v, u < 9 → v < 9 → (bt (re u) v = true ↔ (bt (re0 u) v = true ∨ (bt (re0 u) k = true ∧ bt (re0 k) v = true)))) : wk_K L re (k + 1) := by
  obtain ⟨a1, a2, a3, a4⟩ := h
  refine ⟨fun u hu => (f u u hu hu).mpr (Or.inl (a1 u hu)), fun u v hu hv hl => (f u v hu hv).mpr (Or.inl (a2 u v hu hv hl)), ?_, ?_⟩
  · intro S hS u v hu hv su hb
    rcases (f u v hu hv).mp hb with z | ⟨z, y⟩
    · exact a3 S hS u v hu hv su z
    · exact a3 S hS k v hk hv (a3 S hS u k hu hk su z) y
  · intro j hj u v hu hv hb hc
    have j9 : j < 9 := by omega
    have hb' := (f u j hu j9).mp hb
    have hc' := (f j v j9 hv).mp hc
    apply (f u v hu hv).mpr
    by_cases jk : j = k
    · subst jk
      have b1 : bt (re0 u) j = true := by
        rcases hb' with z | z
        · exact z
        · exact z.1
      have c1 : bt (re0 j) v = true := by
        rcases hc' with z | z
        · exact z
        · exact z.2
      exact Or.inr ⟨b1, c1⟩
    · have jl : j < k := by omega
      rcases hb' with z | ⟨z, y⟩
      · rcases hc' with x | ⟨x, w⟩
        · exact Or.inl (a4 j jl u v hu hv z x)
        · exact Or.inr ⟨a4 j jl u k hu hk z x, w⟩
      · rcases hc' with x | ⟨x, w⟩
        · exact Or.inr ⟨z, a4 j jl k v hk hv y x⟩
        · exact Or.inr ⟨z, w⟩
def cr_row (L re : Nat → Int32) (u : Nat) : Prop := ∀ w, w < 9 → (bt (re u) w = true ↔ (w = u ∨ 0 < (L (u * 9 + w)).toInt))
theorem wk_0 {L re : Nat → Int32} (h : ∀ u, u < 9 → cr_row L re u) : wk_K L re 0 := by
  refine ⟨fun u hu => (h u hu u hu).mpr (Or.inl rfl), fun u v hu hv hl => (h u hu v hv).mpr (Or.inr hl), ?_, fun k hk => absurd hk (Nat.not_lt_zero _)⟩
  intro S hS u v hu hv su hb
  rcases (h u hu v hv).mp hb with z | z
  · rw [z]
    exact su
  · exact hS u v hu hv su z
theorem cr_or {x y : Int32} {i : Nat} : bt (x ||| y) i = true ↔ bt x i = true ∨ bt y i = true := by
  rw [b_or, Bool.or_eq_true]
section
variable {wf fl : Int32} {ca sb ss tb ts le qu cm ta rf sg : Nat → Int32}
theorem xc_73 {post : SX → Prop} {J65 : Int32 → (Nat → Int32) → (Nat → Int32) → (Nat → Int32) → (Nat → Int32) → (Nat → Int32) → (Nat → Int32) → (Nat → Int32) → (Nat → Int32) → (Nat → Int32) → (Nat → Int32) → (Nat → Int32) → (Nat → Int32) → Prop} {k : Nat} (hk : k < 9) {re0 : Nat → Int32}
    (hJ : ∀ re, (∀ u v, u < 9 → v < 9 → (bt (re u) v = true ↔ (bt (re0 u) v = true ∨ (bt (re0 u) k = true ∧ bt (re0 k) v = true)))) → J65 (nI (k + 1)) ca sb ss tb ts le qu cm re ta rf sg) :
    ∀ d u re, u + d = 9 → (∀ u', u' < u → ∀ v, v < 9 → (bt (re u') v = true ↔ (bt (re0 u') v = true ∨ (bt (re0 u') k = true ∧ bt (re0 k) v = true)))) →
      (∀ u', u ≤ u' → u' < 9 → re u' = re0 u') → wX_closeReach_73 post J65 (nI k) wf fl (d + 1) (nI u) ca sb ss tb ts le qu cm re ta rf sg
  | 0, u, re, h, I1, I2 => by
    have e : u = 9 := by omega
    subst e
    exact br_t (by decide) (nm_r (nI_1 k) (hJ re (fun u v hu hv => I1 u hu v hv)))
  | d + 1, u, re, h, I1, I2 => by
    have hu : u < 9 := by omega
    have eu : (nI u).toNatClampNeg = u := nI_clamp (by omega)
    have ek : (nI k).toNatClampNeg = k := nI_clamp (by omega)
    have vu : vp_in (nI u) 9 := vp_in_nI hu (by omega)
    have vk : vp_in (nI k) 9 := vp_in_nI hk (by omega)
    have ru : re u = re0 u := I2 u (Nat.le_refl _) hu
    rw [wX_closeReach_73]
    dsimp only
    rw [eu, ek]
    refine br_f (nI_ge (b := 9) (by omega) (by decide)) ⟨vu, mb_in (by omega) (fun hb => br_f (by decide) ⟨vu, vk, vu, nm_e (nm_r (nI_1 u) ?_)⟩) (fun hb => br_t rfl (nm_r (nI_1 u) ?_))⟩
    · refine xc_73 hk hJ d (u + 1) _ (by omega) ?_ ?_
      · intro u' hu' v hv
        by_cases e : u' = u
        · rw [e, pk_us, cr_or, ru]
          rw [ru] at hb
          have kv : bt (re k) v = true ↔ bt (re0 k) v = true := by
            rcases Nat.lt_or_ge k u with z | z
            · rw [I1 k z v hv]
              constructor
              · intro y
                rcases y with y | y
                · exact y
                · exact y.2
              · exact Or.inl
            · rw [I2 k z hk]
          rw [kv]
          constructor
          · intro y
            rcases y with y | y
            · exact Or.inl y
            · exact Or.inr ⟨hb, y⟩
          · intro y
            rcases y with y | y
            · exact Or.inl y
            · exact Or.inr y.2
        · rw [pk_un e]
          exact I1 u' (by omega) v hv
      · intro u' h1 h2
        rw [pk_un (by omega)]
        exact I2 u' (by omega) h2
    · refine xc_73 hk hJ d (u + 1) re (by omega) ?_ ?_
      · intro u' hu' v hv
        by_cases e : u' = u
        · rw [e, ru]
          rw [ru] at hb
          constructor
          · exact Or.inl
          · intro y
            rcases y with y | y
            · exact y
            · rw [hb] at y
              exact absurd y.1 (by decide)
        · exact I1 u' (by omega) v hv
      · intro u' h1 h2
        exact I2 u' (by omega) h2
theorem xc_65 {post : SX → Prop} (hp : ∀ re, wk_K le re 9 → post (wf, fl, ca, sb, ss, tb, ts, le, qu, cm, re, ta, rf, sg)) : ∀ d k re, k + d = 9 → wk_K le re k → wX_closeReach_65 post wf fl (d + 1) (nI k) ca sb ss tb ts le qu cm re ta rf sg
  | 0, k, re, h, I => by
    have e : k = 9 := by omega
    subst e
    exact br_t (by decide) (hp re I)
  | d + 1, k, re, h, I =>
    br_f (nI_ge (b := 9) (by omega) (by decide)) ⟨10, xc_73 (by omega) (re0 := re) (fun re' f => xc_65 hp d (k + 1) re' (by omega) (wk_step (by omega) I f)) 9 0 re rfl (fun _ z => absurd z (Nat.not_lt_zero _)) (fun _ _ _ => rfl)⟩
theorem xc_19 {post : SX → Prop} {J2 : Int32 → (Nat → Int32) → (Nat → Int32) → (Nat → Int32) → (Nat → Int32) → (Nat → Int32) → (Nat → Int32) → (Nat → Int32) → (Nat → Int32) → (Nat → Int32) → (Nat → Int32) → (Nat → Int32) → (Nat → Int32) → Prop} {u : Nat} (hu : u < 9)
    (hJ : ∀ re, (∀ u', u' < u + 1 → cr_row le re u') → J2 (nI (u + 1)) ca sb ss tb ts le qu cm re ta rf sg) :
    ∀ d v re, v + d = 9 → (∀ u', u' < u → cr_row le re u') → (∀ w, w < 9 → (bt (re u) w = true ↔ (w = u ∨ (w < v ∧ 0 < (le (u * 9 + w)).toInt)))) → wX_closeReach_19 post J2 (nI u) wf fl (d + 1) (nI v) ca sb ss tb ts le qu cm re ta rf sg
  | 0, v, re, h, I1, I2 => by
    have e : v = 9 := by omega
    subst e
    refine br_t (by decide) (nm_r (nI_1 u) (hJ re (fun u' hu' => ?_)))
    by_cases e : u' = u
    · rw [e]
      intro w hw
      rw [I2 w hw]
      constructor
      · intro y
        rcases y with y | y
        · exact Or.inl y
        · exact Or.inr y.2
      · intro y
        rcases y with y | y
        · exact Or.inl y
        · exact Or.inr ⟨hw, y⟩
    · exact I1 u' (by omega)
  | d + 1, v, re, h, I1, I2 => by
    have hv : v < 9 := by omega
    have eu : (nI u).toNatClampNeg = u := nI_clamp (by omega)
    have hx : (nI (u * 9 + v)).toNatClampNeg = u * 9 + v := nI_clamp (by omega)
    have vu : vp_in (nI u) 9 := vp_in_nI hu (by omega)
    rw [wX_closeReach_19]
    dsimp only
    rw [eu, mi_9, hx]
    refine br_f (nI_ge (b := 9) (by omega) (by decide)) ⟨vp_in_nI (by omega) (by omega), br_c (fun hl => nm_r (nI_1 v) ?_) (fun hl => ⟨vu, vu, nm_e (nm_r (nI_1 v) ?_)⟩)⟩
    · rw [mz_le] at hl
      refine xc_19 hu hJ d (v + 1) re (by omega) I1 (fun w hw => ?_)
      rw [I2 w hw]
      constructor
      · intro y
        rcases y with y | y
        · exact Or.inl y
        · exact Or.inr ⟨by omega, y.2⟩
      · intro y
        rcases y with y | y
        · exact Or.inl y
        · refine Or.inr ⟨?_, y.2⟩
          have y2 := y.2
          by_cases e : w = v
          · rw [e] at y2
            omega
          · omega
    · rw [mz_le] at hl
      refine xc_19 hu hJ d (v + 1) _ (by omega) ?_ ?_
      · intro u' hu' w hw
        rw [pk_un (by omega)]
        exact I1 u' hu' w hw
      · intro w hw
        rw [pk_us, cr_or, I2 w hw, mb_shl v (by omega) w (by omega), decide_eq_true_eq]
        constructor
        · intro y
          rcases y with y | y
          · rcases y with y | y
            · exact Or.inl y
            · exact Or.inr ⟨by omega, y.2⟩
          · rw [y]
            exact Or.inr ⟨by omega, by omega⟩
        · intro y
          rcases y with y | y
          · exact Or.inl (Or.inl y)
          · by_cases e : w = v
            · exact Or.inr e
            · exact Or.inl (Or.inr ⟨by omega, y.2⟩)
theorem xc_2 {post : SX → Prop} (hp : ∀ re, wk_K le re 9 → post (wf, fl, ca, sb, ss, tb, ts, le, qu, cm, re, ta, rf, sg)) : ∀ d u re, u + d = 9 → (∀ u', u' < u → cr_row le re u') → wX_closeReach_2 post wf fl (d + 1) (nI u) ca sb ss tb ts le qu cm re ta rf sg
  | 0, u, re, h, I => by
    have e : u = 9 := by omega
    subst e
    exact br_t (by decide) ⟨10, xc_65 hp 9 0 re rfl (wk_0 I)⟩
  | d + 1, u, re, h, I => by
    have hu : u < 9 := by omega
    have eu : (nI u).toNatClampNeg = u := nI_clamp (by omega)
    rw [wX_closeReach_2]
    dsimp only
    rw [eu]
    refine br_f (nI_ge (b := 9) (by omega) (by decide)) ⟨vp_in_nI hu (by omega), nm_e ⟨10, xc_19 hu (fun re' I' => xc_2 hp d (u + 1) re' (by omega) I') 9 0 _ rfl ?_ ?_⟩⟩
    · intro u' hu' w hw
      rw [pk_un (by omega)]
      exact I u' hu' w hw
    · intro w hw
      rw [pk_us, mb_shl u (by omega) w (by omega), decide_eq_true_eq]
      constructor
      · exact Or.inl
      · intro y
        rcases y with y | y
        · exact y
        · omega
theorem xc_close {post : SX → Prop} {re : Nat → Int32} (hp : ∀ re, wk_K le re 9 → post (wf, fl, ca, sb, ss, tb, ts, le, qu, cm, re, ta, rf, sg)) : wpX_closeReach post (wf, fl, ca, sb, ss, tb, ts, le, qu, cm, re, ta, rf, sg) :=
  ⟨10, xc_2 hp 9 0 re rfl (fun _ z => absurd z (Nat.not_lt_zero _))⟩
end
end
section
/-! ranges; work -/
def mr_R (ca sb ss tb ts : Nat → Int32) : Prop :=
  (∀ u v, u < 7 → v < 7 → 0 ≤ (ca (u * 7 + v)).toInt ∧ (ca (u * 7 + v)).toInt ≤ 20 ∧ ca (u * 7 + v) = ca (v * 7 + u)) ∧
  (∀ v, v < 7 → 0 ≤ (sb v).toInt ∧ (sb v).toInt ≤ 40 ∧ -2 ≤ (ss v).toInt ∧ (ss v).toInt ≤ 2) ∧
  (∀ v, v < 7 → 0 ≤ (tb v).toInt ∧ (tb v).toInt ≤ 40 ∧ -2 ≤ (ts v).toInt ∧ (ts v).toInt ≤ 2)
theorem mr_q {b s : Nat → Int32} {k v : Nat} (hk : k ≤ 50) (h : 0 ≤ (b v).toInt ∧ (b v).toInt ≤ 40 ∧ -2 ≤ (s v).toInt ∧ (s v).toInt ≤ 2) :
    0 ≤ (mf_pl b s (nI k) v).toInt ∧ (mf_pl b s (nI k) v).toInt ≤ 140 := by
  have ek : (nI k).toInt = (k : Int) := nI_toInt (by omega)
  have em : -100 ≤ (s v).toInt * (k : Int) ∧ (s v).toInt * (k : Int) ≤ 100 := by
    have c : (s v).toInt = -2 ∨ (s v).toInt = -1 ∨ (s v).toInt = 0 ∨ (s v).toInt = 1 ∨ (s v).toInt = 2 := by omega
    rcases c with c | c | c | c | c <;> rw [c] <;> omega
  have e1 : (s v * nI k).toInt = (s v).toInt * (k : Int) := by
    rw [Int32.toInt_mul, ek]
    exact Int.bmod_eq_of_le (by omega) (by omega)
  have e2 : (b v + s v * nI k).toInt = (b v).toInt + (s v).toInt * (k : Int) := by
    rw [mo_ta (by omega) (by omega), e1]
  unfold mf_pl
  split
  · rw [Int32.toInt_zero]
    omega
  · rename_i hz
    rw [mz_le, e2] at hz
    rw [e2]
    omega
section
variable {wf fl : Int32} {ca sb ss tb ts le qu cm re ta rf sg : Nat → Int32}
theorem mr_T {k i : Nat} (hk : k ≤ 50) (hR : mr_R ca sb ss tb ts) : 0 ≤ (mf_T ca sb ss tb ts (nI k) i).toInt ∧ (mf_T ca sb ss tb ts (nI k) i).toInt ≤ 140 := by
  unfold mf_T
  split
  · rename_i h
    have := hR.1 (i / 9) (i % 9) h.1 h.2
    omega
  · split
    · rename_i h
      exact mr_q hk (hR.2.1 _ h.2)
    · split
      · rename_i h
        exact mr_q hk (hR.2.2 _ h.1)
      · rw [Int32.toInt_zero]
        decide
theorem mr_B {L : Nat → Int32} {k : Nat} (hk : k ≤ 50) (hR : mr_R ca sb ss tb ts) (h : ∀ i, i < 81 → L i = mf_T ca sb ss tb ts (nI k) i) : mf_B L := by
  intro a b ha hb
  rw [h (a * 9 + b) (by omega), h (b * 9 + a) (by omega)]
  have h1 := mr_T (i := a * 9 + b) hk hR
  have h2 := mr_T (i := b * 9 + a) hk hR
  omega
theorem mr_20 {L : Nat → Int32} {k : Nat} (hR : mr_R ca sb ss tb ts) (h : ∀ i, i < 81 → L i = mf_T ca sb ss tb ts (nI k) i) : ∀ a b, a < 7 → b < 7 → (L (a * 9 + b)).toInt ≤ 20 := by
  intro a b ha hb
  rw [h (a * 9 + b) (by omega), mf_T1 ha hb]
  exact (hR.1 a b ha hb).2.1
theorem mr_71 {L : Nat → Int32} {x : Int32} (h : ∀ i, i < 81 → L i = mf_T ca sb ss tb ts x i) : (L 71).toInt = 0 := by
  rw [h 71 (by omega), mf_T0 (by omega)]
  exact Int32.toInt_zero
theorem mr_cut {L : Nat → Int32} {x : Int32} {S : Nat → Bool} (hR : mr_R ca sb ss tb ts) (h : ∀ i, i < 81 → L i = mf_T ca sb ss tb ts x i) (h7 : S 7 = true) (h8 : S 8 = false) : mf_cut L S = mf_P ca sb ss tb ts x S := by
  unfold mf_P
  refine mf_cut_pr h7 h8 ?_ ?_ ?_ ?_ (mr_71 h)
  · intro u v hu hv
    rw [h _ (by omega), mf_T1 hu hv]
    rfl
  · intro u v hu hv
    unfold mf_cc
    rw [(hR.1 u v hu hv).2.2]
  · intro u hu
    rw [h _ (by omega), mf_T2 hu]
    rfl
  · intro u hu
    rw [h _ (by omega), mf_T3 hu]
    rfl
def mf_WK (ca sb ss tb ts : Nat → Int32) (x : Int32) (L : Nat → Int32) (f : Int32) (re : Nat → Int32) : Prop :=
  mf_NN L ∧ (∀ S : Nat → Bool, S 7 = true → S 8 = false → mf_cut L S + f.toInt = mf_P ca sb ss tb ts x S) ∧ (∃ R : Nat → Bool, R 7 = true ∧ R 8 = false ∧ mf_Cl L R) ∧ wk_K L re 9
theorem xw_work {post : SX → Prop} {k : Nat} (hk : k ≤ 50) (hR : mr_R ca sb ss tb ts) (hW : wf = nI k → mf_WK ca sb ss tb ts (nI k) le fl re)
    (hp : ∀ (fl : Int32) (le qu cm re : Nat → Int32), mf_WK ca sb ss tb ts (nI k) le fl re → post (nI k, fl, ca, sb, ss, tb, ts, le, qu, cm, re, ta, rf, sg)) : wpX_work post (wf, fl, ca, sb, ss, tb, ts, le, qu, cm, re, ta, rf, sg) (nI k) := by
  refine br_c (fun e => ?_) (fun e => xl_load (fun L hL => xg_grow (mr_B hk hR hL) (mr_71 hL) (mr_20 hR hL) (fun fl' L' qu' cm' Z => xc_close (fun re' K => hp fl' L' qu' cm' re' ⟨Z.1, fun S s7 s8 => ?_, Z.2.2, K⟩))))
  · have k1 := hp fl le qu cm re (hW e)
    rw [← e] at k1
    exact k1
  · rw [Z.2.1 S s7 s8, mr_cut hR hL s7 s8]
end
end
section
/-! the reference's walks: least, always, ever, ties, separates -/
theorem mb_nI (s : Nat) {i : Nat} (hi : i < 32) : bt (nI s) i = s.testBit i := by
  show (BitVec.ofNat 32 s).getLsbD i = s.testBit i
  rw [BitVec.getLsbD_ofNat]
  simp [hi]
theorem mf_P_c {ca sb ss tb ts : Nat → Int32} {x : Int32} {S S' : Nat → Bool} (h : ∀ v, v < 7 → S v = S' v) : mf_P ca sb ss tb ts x S = mf_P ca sb ss tb ts x S' := mf_pr_c h
theorem mr_P {ca sb ss tb ts : Nat → Int32} {k : Nat} (hk : k ≤ 50) (hR : mr_R ca sb ss tb ts) (S : Nat → Bool) : 0 ≤ mf_P ca sb ss tb ts (nI k) S ∧ mf_P ca sb ss tb ts (nI k) S ≤ 1820 := by
  have key : ∀ v, v < 7 → 0 ≤ (if S v = true then mf_q tb ts (nI k) v else mf_q sb ss (nI k) v) + mf_sm (fun u => if S u = S v then 0 else mf_cc ca u v) v ∧ (if S v = true then mf_q tb ts (nI k) v else mf_q sb ss (nI k) v) + mf_sm (fun u => if S u = S v then 0 else mf_cc ca u v) v ≤ 260 := by
    intro v hv
    have q1 := mr_q (v := v) hk (hR.2.1 v hv)
    have q2 := mr_q (v := v) hk (hR.2.2 v hv)
    have s1 : 0 ≤ mf_sm (fun u => if S u = S v then 0 else mf_cc ca u v) v := by
      apply mf_sm_n
      intro u hu
      split
      · exact Int.le_refl _
      · exact (hR.1 u v (by omega) hv).1
    have s2 : mf_sm (fun u => if S u = S v then 0 else mf_cc ca u v) v ≤ (v : Int) * 20 := by
      apply mf_sm_b
      intro u hu
      split
      · decide
      · exact (hR.1 u v (by omega) hv).2.1
    have q1' : 0 ≤ mf_q sb ss (nI k) v ∧ mf_q sb ss (nI k) v ≤ 140 := q1
    have q2' : 0 ≤ mf_q tb ts (nI k) v ∧ mf_q tb ts (nI k) v ≤ 140 := q2
    split <;> omega
  constructor
  · exact mf_sm_n 7 (fun v hv => (key v hv).1)
  · exact mf_sm_b (c := 260) 7 (fun v hv => (key v hv).2)
theorem mo_toInt {a : Int} (h : 0 ≤ a ∧ a ≤ 1820) : (Int32.ofInt a).toInt = a := Int32.toInt_ofInt_of_le (by omega) (by omega)
theorem mo_le {a b : Int} (ha : 0 ≤ a ∧ a ≤ 1820) (hb : 0 ≤ b ∧ b ≤ 1820) : Int32.ofInt a ≤ Int32.ofInt b ↔ a ≤ b := by
  rw [Int32.le_iff_toInt_le, mo_toInt ha, mo_toInt hb]
theorem mo_eq {a b : Int} (ha : 0 ≤ a ∧ a ≤ 1820) (hb : 0 ≤ b ∧ b ≤ 1820) : Int32.ofInt a = Int32.ofInt b ↔ a = b := by
  rw [← Int32.toInt_inj, mo_toInt ha, mo_toInt hb]
theorem mx_num (x : Int32) : (∃ k : Nat, k ≤ 50 ∧ x = nI k) ∨ (x < 0 ∨ (¬ x < 0 ∧ 50 < x)) := by
  by_cases h : x < 0
  · exact Or.inr (Or.inl h)
  · rcases pk_ix x (n := 51) (by omega) with z | z | ⟨j, hj, z⟩
    · exact absurd z h
    · refine Or.inr (Or.inr ⟨h, ?_⟩)
      have z' : (51 : Int32) ≤ x := z
      rw [Int32.le_iff_toInt_le] at z'
      rw [Int32.lt_iff_toInt_lt]
      have e1 : (51 : Int32).toInt = 51 := by decide
      have e2 : (50 : Int32).toInt = 50 := by decide
      omega
    · exact Or.inl ⟨j, by omega, z⟩
theorem mx_node (x : Int32) : (∃ k : Nat, k < 7 ∧ x = nI k) ∨ (x < 0 ∨ (¬ x < 0 ∧ 7 ≤ x)) := by
  by_cases h : x < 0
  · exact Or.inr (Or.inl h)
  · rcases pk_ix x (n := 7) (by omega) with z | z | ⟨j, hj, z⟩
    · exact absurd z h
    · exact Or.inr (Or.inr ⟨h, z⟩)
    · exact Or.inl ⟨j, hj, z⟩
def yl_M (P : Nat → Int) (m : Int) : Prop := (∀ t, t < 128 → m ≤ P t) ∧ ∃ t, t < 128 ∧ P t = m
theorem yl_u {P : Nat → Int} {m n : Int} (h : yl_M P m) (g : yl_M P n) : m = n := by
  obtain ⟨a, s, hs, es⟩ := h
  obtain ⟨b, t, ht, et⟩ := g
  have h1 := a t ht
  have h2 := b s hs
  omega
def yt_c (p : Nat → Bool) : Nat → Nat
  | 0 => 0
  | n + 1 => yt_c p n + (if p n = true then 1 else 0)
section
variable {ca sb ss tb ts se : Nat → Int32}
theorem yn_ok {post : Int32 → Prop} {k : Nat} (hk : k ≤ 50) (h : post 1) : wpY_isNumber post (ca, sb, ss, tb, ts, se) (nI k) :=
  br_f (nI_pos (by omega)) (br_f (nI_nlt (a := 50) hk (by decide)) h)
theorem yn_bad {post : Int32 → Prop} {x : Int32} (hx : x < 0 ∨ (¬ x < 0 ∧ 50 < x)) (h : post 0) : wpY_isNumber post (ca, sb, ss, tb, ts, se) x := by
  rcases hx with z | z
  · exact br_t z h
  · exact br_f z.1 (br_t z.2 h)
theorem yd_ok {post : Int32 → Prop} {k : Nat} (hk : k < 7) (h : post 1) : wpY_isNode post (ca, sb, ss, tb, ts, se) (nI k) :=
  br_f (nI_pos (by omega)) (br_f (nI_ge (b := 7) hk (by decide)) h)
theorem yd_bad {post : Int32 → Prop} {x : Int32} (hx : x < 0 ∨ (¬ x < 0 ∧ 7 ≤ x)) (h : post 0) : wpY_isNode post (ca, sb, ss, tb, ts, se) x := by
  rcases hx with z | z
  · exact br_t z h
  · exact br_f z.1 (br_t z.2 h)
theorem xn_ok {post : Int32 → Prop} {k : Nat} (hk : k ≤ 50) (h : post 0) : wpX_badX post (nI k) :=
  br_f (nI_pos (by omega)) (br_t (nI_le (b := 50) hk (by decide)) h)
theorem xn_bad {post : Int32 → Prop} {x : Int32} (hx : x < 0 ∨ (¬ x < 0 ∧ 50 < x)) (h : post 1) : wpX_badX post x := by
  rcases hx with z | z
  · exact br_t z h
  · exact br_f z.1 (br_f (Int32.not_le.mpr z.2) h)
theorem xd_ok {post : Int32 → Prop} {k : Nat} (hk : k < 7) (h : post 0) : wpX_bad post (nI k) :=
  br_f (nI_pos (by omega)) (br_t (nI_lt (b := 7) hk (by decide)) h)
theorem xd_bad {post : Int32 → Prop} {x : Int32} (hx : x < 0 ∨ (¬ x < 0 ∧ 7 ≤ x)) (h : post 1) : wpX_bad post x := by
  rcases hx with z | z
  · exact br_t z h
  · exact br_f z.1 (br_f (Int32.not_lt.mpr z.2) h)
theorem yp_pS {post : Int32 → Prop} {s : Nat} {x : Int32} (hp : post (Int32.ofInt (mf_P ca sb ss tb ts x (mf_S s)))) : wpY_price post (ca, sb, ss, tb, ts, se) (nI s) x := by
  apply yp_price
  rw [mf_P_c (S' := mf_S s)]
  · exact hp
  · intro v hv
    rw [mb_nI s (by omega), mf_Sl hv]
theorem yl_20 {post : Int32 → Prop} {k : Nat} (hk : k ≤ 50) (hR : mr_R ca sb ss tb ts) (hp : ∀ m, yl_M (fun t => mf_P ca sb ss tb ts (nI k) (mf_S t)) m → post (Int32.ofInt m)) :
    ∀ d s m, s + d = 128 → (∀ t, t < s → m ≤ mf_P ca sb ss tb ts (nI k) (mf_S t)) → (∃ t, t < s ∧ mf_P ca sb ss tb ts (nI k) (mf_S t) = m) → wY_least_20 post (nI k) ca sb ss tb ts se (d + 1) (Int32.ofInt m) (nI s)
  | 0, s, m, h, I1, I2 => by
    have e : s = 128 := by omega
    subst e
    exact br_t (by decide) (hp m ⟨I1, I2⟩)
  | d + 1, s, m, h, I1, I2 => by
    have hP := mr_P hk hR (mf_S s)
    have hm : 0 ≤ m ∧ m ≤ 1820 := by
      obtain ⟨t, _, et⟩ := I2
      rw [← et]
      exact mr_P hk hR (mf_S t)
    refine br_f (nI_ge (b := 128) (by omega) (by decide)) (yp_pS (br_c (fun hl => nm_r (nI_1 s) ?_) (fun hl => nm_r (nI_1 s) ?_)))
    · rw [mo_le hm hP] at hl
      refine yl_20 hk hR hp d (s + 1) m (by omega) (fun t ht => ?_) ?_
      · by_cases e : t = s
        · rw [e]
          exact hl
        · exact I1 t (by omega)
      · obtain ⟨t, ht, et⟩ := I2
        exact ⟨t, by omega, et⟩
    · rw [mo_le hm hP] at hl
      refine yl_20 hk hR hp d (s + 1) _ (by omega) (fun t ht => ?_) ⟨s, by omega, rfl⟩
      by_cases e : t = s
      · rw [e]
        exact Int.le_refl _
      · have := I1 t (by omega)
        omega
theorem yl_least {post : Int32 → Prop} {k : Nat} (hk : k ≤ 50) (hR : mr_R ca sb ss tb ts) (hp : ∀ m, yl_M (fun t => mf_P ca sb ss tb ts (nI k) (mf_S t)) m → post (Int32.ofInt m)) : wpY_least post (ca, sb, ss, tb, ts, se) (nI k) := by
  unfold wpY_least
  refine yn_ok hk (br_f (by decide) (yp_pS (s := 0) ⟨128, yl_20 hk hR hp 127 1 _ rfl (fun t ht => ?_) ⟨0, by omega, rfl⟩⟩))
  have e : t = 0 := by omega
  rw [e]
  exact Int.le_refl _
theorem ya_23 {post : Int32 → Prop} {k : Nat} {m : Int} (hk : k ≤ 50) (hR : mr_R ca sb ss tb ts) (hm : 0 ≤ m ∧ m ≤ 1820)
    (hp : ∀ z : Int32, (∀ i, i < 32 → (bt z i = true ↔ (i < 7 ∧ ∀ t, t < 128 → mf_P ca sb ss tb ts (nI k) (mf_S t) = m → t.testBit i = true))) → post z) :
    ∀ (d s : Nat) (z : Int32), s + d = 128 → (∀ i, i < 32 → (bt z i = true ↔ (i < 7 ∧ ∀ t, t < s → mf_P ca sb ss tb ts (nI k) (mf_S t) = m → t.testBit i = true))) → wY_always_23 post (nI k) (Int32.ofInt m) ca sb ss tb ts se (d + 1) z (nI s)
  | 0, s, z, h, I => by
    have e : s = 128 := by omega
    subst e
    exact br_t (by decide) (hp z I)
  | d + 1, s, z, h, I => by
    have hP := mr_P hk hR (mf_S s)
    refine br_f (nI_ge (b := 128) (by omega) (by decide)) (yp_pS (br_c (fun hl => nm_e (nm_r (nI_1 s) ?_)) (fun hl => nm_r (nI_1 s) ?_)))
    · rw [mo_eq hP hm] at hl
      refine ya_23 hk hR hm hp d (s + 1) _ (by omega) (fun i hi => ?_)
      rw [b_and, Bool.and_eq_true, I i hi, mb_nI s hi]
      constructor
      · intro y
        refine ⟨y.1.1, fun t ht et => ?_⟩
        by_cases e : t = s
        · rw [e]
          exact y.2
        · exact y.1.2 t (by omega) et
      · intro y
        exact ⟨⟨y.1, fun t ht et => y.2 t (by omega) et⟩, y.2 s (by omega) hl⟩
    · rw [mo_eq hP hm] at hl
      refine ya_23 hk hR hm hp d (s + 1) z (by omega) (fun i hi => ?_)
      rw [I i hi]
      constructor
      · intro y
        refine ⟨y.1, fun t ht et => ?_⟩
        by_cases e : t = s
        · rw [e] at et
          exact absurd et hl
        · exact y.2 t (by omega) et
      · intro y
        exact ⟨y.1, fun t ht et => y.2 t (by omega) et⟩
theorem yl_in {k : Nat} {m : Int} (hk : k ≤ 50) (hR : mr_R ca sb ss tb ts) (h : yl_M (fun t => mf_P ca sb ss tb ts (nI k) (mf_S t)) m) : 0 ≤ m ∧ m ≤ 1820 := by
  obtain ⟨_, t, _, et⟩ := h
  rw [← et]
  exact mr_P hk hR (mf_S t)
theorem ya_always {post : Int32 → Prop} {k : Nat} (hk : k ≤ 50) (hR : mr_R ca sb ss tb ts)
    (hp : ∀ (m : Int) (z : Int32), yl_M (fun t => mf_P ca sb ss tb ts (nI k) (mf_S t)) m → (∀ i, i < 32 → (bt z i = true ↔ (i < 7 ∧ ∀ t, t < 128 → mf_P ca sb ss tb ts (nI k) (mf_S t) = m → t.testBit i = true))) → post z) : wpY_always post (ca, sb, ss, tb, ts, se) (nI k) := by
  unfold wpY_always
  refine yn_ok hk (br_f (by decide) (yl_least hk hR (fun m hm => ⟨129, ya_23 hk hR (yl_in hk hR hm) (fun z hz => hp m z hm hz) 128 0 127 rfl (fun i hi => ?_)⟩)))
  rw [mb_127 i hi, decide_eq_true_eq]
  exact ⟨fun y => ⟨y, fun t ht => absurd ht (Nat.not_lt_zero _)⟩, fun y => y.1⟩
theorem ye_22 {post : Int32 → Prop} {k : Nat} {m : Int} (hk : k ≤ 50) (hR : mr_R ca sb ss tb ts) (hm : 0 ≤ m ∧ m ≤ 1820)
    (hp : ∀ z : Int32, (∀ i, i < 32 → (bt z i = true ↔ ∃ t, t < 128 ∧ mf_P ca sb ss tb ts (nI k) (mf_S t) = m ∧ t.testBit i = true)) → post z) :
    ∀ (d s : Nat) (z : Int32), s + d = 128 → (∀ i, i < 32 → (bt z i = true ↔ ∃ t, t < s ∧ mf_P ca sb ss tb ts (nI k) (mf_S t) = m ∧ t.testBit i = true)) → wY_ever_22 post (nI k) (Int32.ofInt m) ca sb ss tb ts se (d + 1) z (nI s)
  | 0, s, z, h, I => by
    have e : s = 128 := by omega
    subst e
    exact br_t (by decide) (hp z I)
  | d + 1, s, z, h, I => by
    have hP := mr_P hk hR (mf_S s)
    refine br_f (nI_ge (b := 128) (by omega) (by decide)) (yp_pS (br_c (fun hl => nm_e (nm_r (nI_1 s) ?_)) (fun hl => nm_r (nI_1 s) ?_)))
    · rw [mo_eq hP hm] at hl
      refine ye_22 hk hR hm hp d (s + 1) _ (by omega) (fun i hi => ?_)
      rw [cr_or, I i hi, mb_nI s hi]
      constructor
      · intro y
        rcases y with ⟨t, ht, et⟩ | y
        · exact ⟨t, by omega, et⟩
        · exact ⟨s, by omega, hl, y⟩
      · intro y
        obtain ⟨t, ht, et⟩ := y
        by_cases e : t = s
        · rw [e] at et
          exact Or.inr et.2
        · exact Or.inl ⟨t, by omega, et⟩
    · rw [mo_eq hP hm] at hl
      refine ye_22 hk hR hm hp d (s + 1) z (by omega) (fun i hi => ?_)
      rw [I i hi]
      constructor
      · intro y
        obtain ⟨t, ht, et⟩ := y
        exact ⟨t, by omega, et⟩
      · intro y
        obtain ⟨t, ht, et⟩ := y
        by_cases e : t = s
        · rw [e] at et
          exact absurd et.1 hl
        · exact ⟨t, by omega, et⟩
theorem ye_ever {post : Int32 → Prop} {k : Nat} (hk : k ≤ 50) (hR : mr_R ca sb ss tb ts)
    (hp : ∀ (m : Int) (z : Int32), yl_M (fun t => mf_P ca sb ss tb ts (nI k) (mf_S t)) m → (∀ i, i < 32 → (bt z i = true ↔ ∃ t, t < 128 ∧ mf_P ca sb ss tb ts (nI k) (mf_S t) = m ∧ t.testBit i = true)) → post z) : wpY_ever post (ca, sb, ss, tb, ts, se) (nI k) := by
  unfold wpY_ever
  refine yn_ok hk (br_f (by decide) (yl_least hk hR (fun m hm => ⟨129, ye_22 hk hR (yl_in hk hR hm) (fun z hz => hp m z hm hz) 128 0 0 rfl (fun i hi => ?_)⟩)))
  rw [b_0]
  constructor
  · intro y
    exact absurd y (by decide)
  · intro y
    obtain ⟨t, ht, _⟩ := y
    exact absurd ht (Nat.not_lt_zero _)
theorem yt_22 {post : Int32 → Prop} {k : Nat} {m : Int} (hk : k ≤ 50) (hR : mr_R ca sb ss tb ts) (hm : 0 ≤ m ∧ m ≤ 1820)
    (hp : post (nI (yt_c (fun t => decide (mf_P ca sb ss tb ts (nI k) (mf_S t) = m)) 128))) :
    ∀ (d s : Nat), s + d = 128 → wY_ties_22 post (nI k) (Int32.ofInt m) ca sb ss tb ts se (d + 1) (nI (yt_c (fun t => decide (mf_P ca sb ss tb ts (nI k) (mf_S t) = m)) s)) (nI s)
  | 0, s, h => by
    have e : s = 128 := by omega
    subst e
    exact br_t (by decide) hp
  | d + 1, s, h => by
    have hP := mr_P hk hR (mf_S s)
    have ih := yt_22 hk hR hm hp d (s + 1) (by omega)
    refine br_f (nI_ge (b := 128) (by omega) (by decide)) (yp_pS (br_c (fun hl => nm_r (nI_1 _) (nm_r (nI_1 s) ?_)) (fun hl => nm_r (nI_1 s) ?_)))
    · rw [mo_eq hP hm] at hl
      have e : yt_c (fun t => decide (mf_P ca sb ss tb ts (nI k) (mf_S t) = m)) (s + 1) = yt_c (fun t => decide (mf_P ca sb ss tb ts (nI k) (mf_S t) = m)) s + 1 := by
        show _ + (if decide (mf_P ca sb ss tb ts (nI k) (mf_S s) = m) = true then 1 else 0) = _
        rw [if_pos (decide_eq_true hl)]
      rw [e] at ih
      exact ih
    · rw [mo_eq hP hm] at hl
      have e : yt_c (fun t => decide (mf_P ca sb ss tb ts (nI k) (mf_S t) = m)) (s + 1) = yt_c (fun t => decide (mf_P ca sb ss tb ts (nI k) (mf_S t) = m)) s := by
        show _ + (if decide (mf_P ca sb ss tb ts (nI k) (mf_S s) = m) = true then 1 else 0) = _
        rw [if_neg (by rw [decide_eq_false hl]; decide)]
        rfl
      rw [e] at ih
      exact ih
theorem yt_ties {post : Int32 → Prop} {k : Nat} (hk : k ≤ 50) (hR : mr_R ca sb ss tb ts)
    (hp : ∀ (m : Int), yl_M (fun t => mf_P ca sb ss tb ts (nI k) (mf_S t)) m → post (nI (yt_c (fun t => decide (mf_P ca sb ss tb ts (nI k) (mf_S t) = m)) 128))) : wpY_ties post (ca, sb, ss, tb, ts, se) (nI k) := by
  unfold wpY_ties
  exact yn_ok hk (br_f (by decide) (yl_least hk hR (fun m hm => ⟨129, yt_22 hk hR (yl_in hk hR hm) (hp m hm) 128 0 rfl⟩)))
theorem ys_41 {post : Int32 → Prop} {k u v : Nat} {m : Int} (hk : k ≤ 50) (hu : u < 7) (hv : v < 7) (hR : mr_R ca sb ss tb ts) (hm : 0 ≤ m ∧ m ≤ 1820)
    (h1 : (∃ t, t < 128 ∧ t.testBit u = true ∧ t.testBit v = false ∧ mf_P ca sb ss tb ts (nI k) (mf_S t) = m) → post 1)
    (h0 : (¬ ∃ t, t < 128 ∧ t.testBit u = true ∧ t.testBit v = false ∧ mf_P ca sb ss tb ts (nI k) (mf_S t) = m) → post 0) :
    ∀ (d s : Nat), s + d = 128 → (¬ ∃ t, t < s ∧ t.testBit u = true ∧ t.testBit v = false ∧ mf_P ca sb ss tb ts (nI k) (mf_S t) = m) → wY_separates_41 post (nI u) (nI v) (nI k) (Int32.ofInt m) ca sb ss tb ts se (d + 1) (nI s)
  | 0, s, h, I => by
    have e : s = 128 := by omega
    subst e
    exact br_t (by decide) (h0 I)
  | d + 1, s, h, I => by
    have hP := mr_P hk hR (mf_S s)
    have ih : (¬ (s.testBit u = true ∧ s.testBit v = false ∧ mf_P ca sb ss tb ts (nI k) (mf_S s) = m)) → wY_separates_41 post (nI u) (nI v) (nI k) (Int32.ofInt m) ca sb ss tb ts se (d + 1) (nI (s + 1)) := by
      intro hn
      refine ys_41 hk hu hv hR hm h1 h0 d (s + 1) (by omega) ?_
      intro y
      obtain ⟨t, ht, et⟩ := y
      by_cases e : t = s
      · rw [e] at et
        exact hn et
      · exact I ⟨t, by omega, et⟩
    refine br_f (nI_ge (b := 128) (by omega) (by decide)) (br_c (fun b1 => nm_r (nI_1 s) (ih ?_)) (fun b1 => br_c (fun b2 => yp_pS (br_c (fun hl => h1 ?_) (fun hl => nm_r (nI_1 s) (ih ?_)))) (fun b2 => nm_r (nI_1 s) (ih ?_))))
    · rw [mb_eq0 _ (by omega), mb_nI s (by omega)] at b1
      rw [b1]
      intro y
      exact absurd y.1 (by decide)
    · rw [mb_eq0 _ (by omega), mb_nI s (by omega)] at b1 b2
      rw [mo_eq hP hm] at hl
      exact ⟨s, by omega, mb_nf b1, b2, hl⟩
    · rw [mo_eq hP hm] at hl
      exact fun y => hl y.2.2
    · rw [mb_eq0 _ (by omega), mb_nI s (by omega)] at b2
      exact fun y => b2 y.2.1
end
end
section
/-! the plain laws: what a worked state says of the sides of least cost -/
section
variable {ca sb ss tb ts L re : Nat → Int32} {x f : Int32}
theorem wl_cl (W : mf_WK ca sb ss tb ts x L f re) {S : Nat → Bool} (h7 : S 7 = true) (h8 : S 8 = false) : mf_P ca sb ss tb ts x S = f.toInt ↔ mf_Cl L S := by
  rw [← mf_cut_0 W.1]
  have := W.2.1 S h7 h8
  omega
theorem wl_mask (W : mf_WK ca sb ss tb ts x L f re) {S : Nat → Bool} (h7 : S 7 = true) (h8 : S 8 = false) (hc : mf_Cl L S) :
    ∃ s, s < 128 ∧ mf_P ca sb ss tb ts x (mf_S s) = f.toInt ∧ ∀ v, v < 7 → s.testBit v = S v := by
  obtain ⟨s, hs, hb⟩ := mf_mk S 7
  refine ⟨s, hs, ?_, hb⟩
  rw [mf_P_c (S' := S)]
  · exact (wl_cl W h7 h8).mpr hc
  · intro v hv
    rw [mf_Sl hv]
    exact hb v hv
theorem wl_min (W : mf_WK ca sb ss tb ts x L f re) : yl_M (fun t => mf_P ca sb ss tb ts x (mf_S t)) f.toInt := by
  constructor
  · intro t ht
    have a := W.2.1 (mf_S t) (mf_S7 t) (mf_S8 t)
    have b := mf_cut_n (S := mf_S t) W.1
    show f.toInt ≤ mf_P ca sb ss tb ts x (mf_S t)
    omega
  · obtain ⟨R, r7, r8, rc⟩ := W.2.2.1
    obtain ⟨s, hs, e, _⟩ := wl_mask W r7 r8 rc
    exact ⟨s, hs, e⟩
theorem wl_tr (W : mf_WK ca sb ss tb ts x L f re) {k u v : Nat} (hk : k < 9) (hu : u < 9) (hv : v < 9) (h1 : bt (re u) k = true) (h2 : bt (re k) v = true) : bt (re u) v = true :=
  W.2.2.2.2.2.2 k hk u v hu hv h1 h2
theorem wl_78 (W : mf_WK ca sb ss tb ts x L f re) : bt (re 7) 8 = false := by
  obtain ⟨R, r7, r8, rc⟩ := W.2.2.1
  apply mb_nt
  intro z
  have := W.2.2.2.2.2.1 R rc 7 8 (by omega) (by omega) r7 z
  rw [r8] at this
  exact absurd this (by decide)
/-- a side of least cost holds what its nodes reach -/
theorem wl_sub (W : mf_WK ca sb ss tb ts x L f re) {t u v : Nat} (ht : mf_P ca sb ss tb ts x (mf_S t) = f.toInt) (hu : u < 9) (hv : v < 9) (h1 : mf_S t u = true) (h2 : bt (re u) v = true) : mf_S t v = true :=
  W.2.2.2.2.2.1 (mf_S t) ((wl_cl W (mf_S7 t) (mf_S8 t)).mp ht) u v hu hv h1 h2
theorem wl_always (W : mf_WK ca sb ss tb ts x L f re) {i : Nat} (hi : i < 7) : bt (re 7) i = true ↔ ∀ t, t < 128 → mf_P ca sb ss tb ts x (mf_S t) = f.toInt → t.testBit i = true := by
  constructor
  · intro h t ht e
    rw [← mf_Sl hi]
    exact wl_sub W e (by omega) (by omega) (mf_S7 t) h
  · intro h
    have hc : mf_Cl L (fun v => bt (re 7) v) := by
      intro a b ha hb hs hl
      exact wl_tr W ha (by omega) hb hs (W.2.2.2.2.1 a b ha hb hl)
    obtain ⟨s, hs, e, hb⟩ := wl_mask W (S := fun v => bt (re 7) v) (W.2.2.2.1 7 (by omega)) (wl_78 W) hc
    have := h s hs e
    rw [hb i hi] at this
    exact this
theorem wl_ever (W : mf_WK ca sb ss tb ts x L f re) {i : Nat} (hi : i < 7) : bt (re i) 8 = false ↔ ∃ t, t < 128 ∧ mf_P ca sb ss tb ts x (mf_S t) = f.toInt ∧ t.testBit i = true := by
  constructor
  · intro h
    have hc : mf_Cl L (fun v => !bt (re v) 8) := by
      intro a b ha hb hs hl
      have hs' : (!bt (re a) 8) = true := hs
      show (!bt (re b) 8) = true
      rw [Bool.not_eq_true'] at hs' ⊢
      apply mb_nt
      intro z
      have := wl_tr W hb ha (by omega) (W.2.2.2.2.1 a b ha hb hl) z
      rw [hs'] at this
      exact absurd this (by decide)
    obtain ⟨s, hs, e, hb⟩ := wl_mask W (S := fun v => !bt (re v) 8) (by show (!bt (re 7) 8) = true; rw [wl_78 W]; rfl) (by show (!bt (re 8) 8) = false; rw [W.2.2.2.1 8 (by omega)]; rfl) hc
    refine ⟨s, hs, e, ?_⟩
    rw [hb i hi]
    show (!bt (re i) 8) = true
    rw [h]
    rfl
  · intro h
    obtain ⟨t, ht, e, hb⟩ := h
    apply mb_nt
    intro z
    have := wl_sub W (v := 8) e (show i < 9 by omega) (by omega) (by rw [mf_Sl hi]; exact hb) z
    rw [mf_S8] at this
    exact absurd this (by decide)
theorem wl_sep (W : mf_WK ca sb ss tb ts x L f re) {u v : Nat} (hu : u < 7) (hv : v < 7) :
    (bt (re 7 ||| re u) v = false ∧ bt (re 7 ||| re u) 8 = false) ↔ ∃ t, t < 128 ∧ t.testBit u = true ∧ t.testBit v = false ∧ mf_P ca sb ss tb ts x (mf_S t) = f.toInt := by
  constructor
  · intro h
    have hc : mf_Cl L (fun w => bt (re 7 ||| re u) w) := by
      intro a b ha hb hs hl
      have hs' : bt (re 7 ||| re u) a = true := hs
      show bt (re 7 ||| re u) b = true
      rw [cr_or] at hs' ⊢
      have e := W.2.2.2.2.1 a b ha hb hl
      rcases hs' with z | z
      · exact Or.inl (wl_tr W ha (by omega) hb z e)
      · exact Or.inr (wl_tr W ha (by omega) hb z e)
    obtain ⟨s, hs, e, hb⟩ := wl_mask W (S := fun w => bt (re 7 ||| re u) w) (by show bt (re 7 ||| re u) 7 = true; rw [cr_or]; exact Or.inl (W.2.2.2.1 7 (by omega))) h.2 hc
    refine ⟨s, hs, ?_, ?_, e⟩
    · rw [hb u hu]
      show bt (re 7 ||| re u) u = true
      rw [cr_or]
      exact Or.inr (W.2.2.2.1 u (by omega))
    · rw [hb v hv]
      exact h.1
  · intro h
    obtain ⟨t, ht, tu, tv, e⟩ := h
    have key : ∀ w, w < 9 → bt (re 7 ||| re u) w = true → mf_S t w = true := by
      intro w hw hb
      rw [cr_or] at hb
      rcases hb with z | z
      · exact wl_sub W e (by omega) hw (mf_S7 t) z
      · exact wl_sub W e (show u < 9 by omega) hw (by rw [mf_Sl hu]; exact tu) z
    constructor
    · apply mb_nt
      intro z
      have := key v (by omega) z
      rw [mf_Sl hv, tv] at this
      exact absurd this (by decide)
    · apply mb_nt
      intro z
      have := key 8 (by omega) z
      rw [mf_S8] at this
      exact absurd this (by decide)
end
/-! the component's two sides -/
section
variable {wf fl : Int32} {ca sb ss tb ts le qu cm re ta rf sg : Nat → Int32}
theorem xs_4 {post : Int32 → Prop} (hp : ∀ z : Int32, (∀ i, i < 32 → (bt z i = true ↔ (i < 7 ∧ bt (re i) 8 = false))) → post z) :
    ∀ (d v : Nat) (z : Int32), v + d = 7 → (∀ i, i < 32 → (bt z i = true ↔ (i < v ∧ bt (re i) 8 = false))) → wX_greatestSide_4 post wf fl ca sb ss tb ts le qu cm re ta rf sg (d + 1) z (nI v)
  | 0, v, z, h, I => by
    have e : v = 7 := by omega
    subst e
    exact br_t (by decide) (hp z I)
  | d + 1, v, z, h, I => by
    have hv : v < 7 := by omega
    have ev : (nI v).toNatClampNeg = v := nI_clamp (by omega)
    rw [wX_greatestSide_4]
    dsimp only
    rw [ev]
    refine br_f (nI_ge (b := 7) (by omega) (by decide)) ⟨vp_in_nI (by omega) (by omega), mb_in (v := 8) (by omega) (fun hb => br_f (by decide) (nm_r (nI_1 v) ?_)) (fun hb => br_t rfl (nm_e (nm_r (nI_1 v) ?_)))⟩
    · refine xs_4 hp d (v + 1) z (by omega) (fun i hi => ?_)
      rw [I i hi]
      constructor
      · exact fun y => ⟨by omega, y.2⟩
      · intro y
        refine ⟨?_, y.2⟩
        by_cases e : i = v
        · rw [e, hb] at y
          exact absurd y.2 (by decide)
        · omega
    · refine xs_4 hp d (v + 1) _ (by omega) (fun i hi => ?_)
      rw [cr_or, I i hi, mb_shl v (by omega) i hi, decide_eq_true_eq]
      constructor
      · intro y
        rcases y with y | y
        · exact ⟨by omega, y.2⟩
        · rw [y]
          exact ⟨by omega, hb⟩
      · intro y
        by_cases e : i = v
        · exact Or.inr e
        · exact Or.inl ⟨by omega, y.2⟩
theorem xs_great {post : Int32 → Prop} (hp : ∀ z : Int32, (∀ i, i < 32 → (bt z i = true ↔ (i < 7 ∧ bt (re i) 8 = false))) → post z) : wpX_greatestSide post (wf, fl, ca, sb, ss, tb, ts, le, qu, cm, re, ta, rf, sg) :=
  ⟨8, xs_4 hp 7 0 0 rfl (fun i hi => by
    rw [b_0]
    constructor
    · intro y
      exact absurd y (by decide)
    · intro y
      exact absurd y.1 (Nat.not_lt_zero _))⟩
theorem xs_small (x : Int32) {i : Nat} (hi : i < 32) : bt (x &&& 127) i = true ↔ (i < 7 ∧ bt x i = true) := by
  rw [b_and, Bool.and_eq_true, mb_127 i hi, decide_eq_true_eq]
  exact ⟨fun y => ⟨y.2, y.1⟩, fun y => ⟨y.2, y.1⟩⟩
end
end
section
/-! counting the closed sets -/
noncomputable def cn_b (A : Prop) : Bool := @decide A (Classical.propDecidable A)
theorem cn_bt {A : Prop} : cn_b A = true ↔ A := by
  unfold cn_b
  exact @decide_eq_true_iff A (Classical.propDecidable A)
def cn_P (p : Nat → Bool) (t r : Int32) (s : Nat) : Prop := p s = true ∧ (∀ v, v < 7 → bt t v = true → s.testBit v = true) ∧ (∀ v, v < 7 → bt r v = true → s.testBit v = false)
noncomputable def cn_N (p : Nat → Bool) (t r : Int32) : Nat := yt_c (fun s => cn_b (cn_P p t r s)) 128
theorem yt_cc {p q : Nat → Bool} : ∀ n, (∀ i, i < n → (p i = true ↔ q i = true)) → yt_c p n = yt_c q n
  | 0, _ => rfl
  | n + 1, h => by
    show yt_c p n + (if p n = true then 1 else 0) = yt_c q n + (if q n = true then 1 else 0)
    rw [yt_cc n (fun i hi => h i (by omega))]
    have k := h n (by omega)
    by_cases z : p n = true
    · rw [if_pos z, if_pos (k.mp z)]
    · rw [if_neg z, if_neg (fun y => z (k.mpr y))]
theorem yt_cs {p q r : Nat → Bool} : ∀ n, (∀ i, i < n → (p i = true ↔ (q i = true ∨ r i = true)) ∧ ¬ (q i = true ∧ r i = true)) → yt_c p n = yt_c q n + yt_c r n
  | 0, _ => rfl
  | n + 1, h => by
    show yt_c p n + (if p n = true then 1 else 0) = (yt_c q n + (if q n = true then 1 else 0)) + (yt_c r n + (if r n = true then 1 else 0))
    rw [yt_cs (p := p) (q := q) (r := r) n (fun i hi => h i (by omega))]
    obtain ⟨k1, k2⟩ := h n (by omega)
    by_cases zq : q n = true
    · have zr : ¬ r n = true := fun z => k2 ⟨zq, z⟩
      rw [if_pos zq, if_neg zr, if_pos (k1.mpr (Or.inl zq))]
      omega
    · by_cases zr : r n = true
      · rw [if_neg zq, if_pos zr, if_pos (k1.mpr (Or.inr zr))]
        omega
      · have zp : ¬ p n = true := fun z => by
          rcases k1.mp z with y | y
          · exact zq y
          · exact zr y
        rw [if_neg zq, if_neg zr, if_neg zp]
        omega
theorem yt_c0 {p : Nat → Bool} : ∀ n, (∀ i, i < n → ¬ p i = true) → yt_c p n = 0
  | 0, _ => rfl
  | n + 1, h => by
    show yt_c p n + (if p n = true then 1 else 0) = 0
    rw [yt_c0 n (fun i hi => h i (by omega)), if_neg (h n (by omega))]
theorem yt_c1 {p : Nat → Bool} {s : Nat} : ∀ n, s < n → (∀ i, i < n → (p i = true ↔ i = s)) → yt_c p n = 1
  | 0, h, _ => absurd h (Nat.not_lt_zero _)
  | n + 1, h, k => by
    show yt_c p n + (if p n = true then 1 else 0) = 1
    by_cases e : s = n
    · rw [if_pos ((k n (by omega)).mpr e.symm), yt_c0 n (fun i hi z => by
        have := (k i (by omega)).mp z
        omega)]
    · rw [if_neg (fun z => e ((k n (by omega)).mp z).symm), yt_c1 (s := s) n (by omega) (fun i hi => k i (by omega))]
theorem yt_cl {p q : Nat → Bool} : ∀ n, (∀ i, i < n → p i = true → q i = true) → yt_c p n ≤ yt_c q n
  | 0, _ => Nat.le_refl _
  | n + 1, h => by
    show yt_c p n + (if p n = true then 1 else 0) ≤ yt_c q n + (if q n = true then 1 else 0)
    have a := yt_cl (p := p) (q := q) n (fun i hi => h i (by omega))
    have b := h n (by omega)
    by_cases z : p n = true
    · rw [if_pos z, if_pos (b z)]
      omega
    · rw [if_neg z]
      omega
theorem yt_ct {p q : Nat → Bool} {v : Nat} : ∀ n, v < n → (∀ i, i < n → p i = true → q i = true) → q v = true → ¬ p v = true → yt_c p n + 1 ≤ yt_c q n
  | 0, h, _, _, _ => absurd h (Nat.not_lt_zero _)
  | n + 1, h, hs, hq, hp => by
    show yt_c p n + (if p n = true then 1 else 0) + 1 ≤ yt_c q n + (if q n = true then 1 else 0)
    by_cases e : v = n
    · have a := yt_cl (p := p) (q := q) n (fun i hi => hs i (by omega))
      rw [← e, if_neg hp, if_pos hq]
      rw [← e] at a
      omega
    · have a := yt_ct (p := p) (q := q) (v := v) n (by omega) (fun i hi => hs i (by omega)) hq hp
      have b := hs n (by omega)
      by_cases z : p n = true
      · rw [if_pos z, if_pos (b z)]
        omega
      · rw [if_neg z]
        omega
/-- nodes in and out at a level: disjoint, closed, and the least that every side has -/
def cn_C (re : Nat → Int32) (t r : Int32) : Prop :=
  (∀ w, w < 7 → ¬ (bt t w = true ∧ bt r w = true)) ∧ (∀ a b, a < 7 → b < 7 → bt t a = true → bt (re a) b = true → bt t b = true) ∧
  (∀ a b, a < 7 → b < 7 → bt r b = true → bt (re a) b = true → bt r a = true) ∧ (∀ w, w < 7 → bt (re 7) w = true → bt t w = true) ∧ (∀ w, w < 7 → bt (re w) 8 = true → bt r w = true)
def cn_S (t : Int32) (w : Nat) : Bool := if w < 7 then bt t w else w == 7
theorem cn_Sl {t : Int32} {w : Nat} (h : w < 7) : cn_S t w = bt t w := if_pos h
def cn_u (t r : Int32) : Nat := yt_c (fun v => !(bt t v || bt r v)) 7
theorem cn_us {t r : Int32} {v : Nat} : (!(bt t v || bt r v)) = true ↔ (bt t v = false ∧ bt r v = false) := by
  cases bt t v <;> cases bt r v <;> decide
section
variable {ca sb ss tb ts L re : Nat → Int32} {x f : Int32}
theorem cn_take (W : mf_WK ca sb ss tb ts x L f re) {t r t' : Int32} {v : Nat} (hv : v < 7) (h : cn_C re t r) (hr : bt r v = false) (ht : ∀ w, w < 7 → (bt t' w = true ↔ (bt t w = true ∨ bt (re v) w = true))) : cn_C re t' r := by
  obtain ⟨c1, c2, c3, c4, c5⟩ := h
  refine ⟨?_, ?_, c3, ?_, c5⟩
  · intro w hw z
    rcases (ht w hw).mp z.1 with y | y
    · exact c1 w hw ⟨y, z.2⟩
    · have := c3 v w hv hw z.2 y
      rw [hr] at this
      exact absurd this (by decide)
  · intro a b ha hb za zb
    apply (ht b hb).mpr
    rcases (ht a ha).mp za with y | y
    · exact Or.inl (c2 a b ha hb y zb)
    · exact Or.inr (wl_tr W (show a < 9 by omega) (by omega) (by omega) y zb)
  · intro w hw z
    exact (ht w hw).mpr (Or.inl (c4 w hw z))
theorem cn_refuse (W : mf_WK ca sb ss tb ts x L f re) {t r r' : Int32} {v : Nat} (hv : v < 7) (h : cn_C re t r) (ht : bt t v = false) (hr : ∀ w, w < 7 → (bt r' w = true ↔ (bt r w = true ∨ bt (re w) v = true))) : cn_C re t r' := by
  obtain ⟨c1, c2, c3, c4, c5⟩ := h
  refine ⟨?_, c2, ?_, c4, ?_⟩
  · intro w hw z
    rcases (hr w hw).mp z.2 with y | y
    · exact c1 w hw ⟨z.1, y⟩
    · have := c2 w v hw hv z.1 y
      rw [ht] at this
      exact absurd this (by decide)
  · intro a b ha hb zb za
    apply (hr a ha).mpr
    rcases (hr b hb).mp zb with y | y
    · exact Or.inl (c3 a b ha hb y za)
    · exact Or.inr (wl_tr W (show b < 9 by omega) (by omega) (by omega) za y)
  · intro w hw z
    exact (hr w hw).mpr (Or.inl (c5 w hw z))
theorem cn_leaf (W : mf_WK ca sb ss tb ts x L f re) {t r : Int32} (h : cn_C re t r) (ha : ∀ v, v < 7 → bt t v = true ∨ bt r v = true) :
    cn_N (fun s => decide (mf_P ca sb ss tb ts x (mf_S s) = f.toInt)) t r = 1 := by
  obtain ⟨c1, c2, c3, c4, c5⟩ := h
  have hS : ∀ w, w < 7 → cn_S t w = bt t w := fun w hw => cn_Sl hw
  have hc : mf_Cl L (cn_S t) := by
    intro a b ha' hb' hs hl
    have e := W.2.2.2.2.1 a b ha' hb' hl
    by_cases b7 : b = 7
    · rw [b7]
      rfl
    · by_cases a7 : a = 7
      · rw [a7] at e
        by_cases b8 : b = 8
        · rw [b8, wl_78 W] at e
          exact absurd e (by decide)
        · rw [hS b (by omega)]
          exact c4 b (by omega) e
      · by_cases a8 : a = 8
        · have e8 : cn_S t 8 = false := rfl
          rw [a8, e8] at hs
          exact absurd hs (by decide)
        · rw [hS a (by omega)] at hs
          by_cases b8 : b = 8
          · rw [b8] at e
            exact absurd ⟨hs, c5 a (by omega) e⟩ (c1 a (by omega))
          · rw [hS b (by omega)]
            exact c2 a b (by omega) (by omega) hs e
  obtain ⟨s, hs, e, hb⟩ := wl_mask W (S := cn_S t) rfl rfl hc
  apply yt_c1 (s := s) 128 hs
  intro i hi
  rw [cn_bt]
  constructor
  · intro z
    apply mf_inj hi hs
    intro v hv
    rw [hb v hv, hS v hv]
    rcases ha v hv with y | y
    · rw [y]
      exact z.2.1 v hv y
    · rw [z.2.2 v hv y]
      cases q : bt t v with
      | false => rfl
      | true => exact absurd ⟨q, y⟩ (c1 v hv)
  · intro z
    rw [z]
    refine ⟨decide_eq_true e, ?_, ?_⟩
    · intro v hv y
      rw [hb v hv, hS v hv]
      exact y
    · intro v hv y
      rw [hb v hv, hS v hv]
      apply mb_nt
      exact fun q => c1 v hv ⟨q, y⟩
theorem cn_split (W : mf_WK ca sb ss tb ts x L f re) {t r t' r' : Int32} {v : Nat} (hv : v < 7) (ht : ∀ w, w < 7 → (bt t' w = true ↔ (bt t w = true ∨ bt (re v) w = true))) (hr : ∀ w, w < 7 → (bt r' w = true ↔ (bt r w = true ∨ bt (re w) v = true))) :
    cn_N (fun s => decide (mf_P ca sb ss tb ts x (mf_S s) = f.toInt)) t r = cn_N (fun s => decide (mf_P ca sb ss tb ts x (mf_S s) = f.toInt)) t' r + cn_N (fun s => decide (mf_P ca sb ss tb ts x (mf_S s) = f.toInt)) t r' := by
  apply yt_cs
  intro s hs
  rw [cn_bt, cn_bt, cn_bt]
  have rv : bt (re v) v = true := W.2.2.2.1 v (by omega)
  constructor
  · constructor
    · intro z
      obtain ⟨z1, z2, z3⟩ := z
      have e : mf_P ca sb ss tb ts x (mf_S s) = f.toInt := of_decide_eq_true z1
      cases q : s.testBit v with
      | true =>
        refine Or.inl ⟨z1, ?_, z3⟩
        intro w hw y
        rcases (ht w hw).mp y with k | k
        · exact z2 w hw k
        · rw [← mf_Sl hw]
          exact wl_sub W e (show v < 9 by omega) (by omega) (by rw [mf_Sl hv]; exact q) k
      | false =>
        refine Or.inr ⟨z1, z2, ?_⟩
        intro w hw y
        rcases (hr w hw).mp y with k | k
        · exact z3 w hw k
        · apply mb_nt
          intro g
          have := wl_sub W e (show w < 9 by omega) (show v < 9 by omega) (by rw [mf_Sl hw]; exact g) k
          rw [mf_Sl hv, q] at this
          exact absurd this (by decide)
    · intro z
      rcases z with z | z
      · exact ⟨z.1, fun w hw y => z.2.1 w hw ((ht w hw).mpr (Or.inl y)), z.2.2⟩
      · exact ⟨z.1, z.2.1, fun w hw y => z.2.2 w hw ((hr w hw).mpr (Or.inl y))⟩
  · intro z
    have a := z.1.2.1 v hv ((ht v hv).mpr (Or.inr rv))
    have b := z.2.2.2 v hv ((hr v hv).mpr (Or.inr rv))
    rw [a] at b
    exact absurd b (by decide)
theorem cn_top (W : mf_WK ca sb ss tb ts x L f re) {t r : Int32} (ht : ∀ w, w < 7 → (bt t w = true ↔ bt (re 7) w = true)) (hr : ∀ w, w < 7 → (bt r w = true ↔ bt (re w) 8 = true)) :
    cn_C re t r ∧ cn_N (fun s => decide (mf_P ca sb ss tb ts x (mf_S s) = f.toInt)) t r = yt_c (fun s => decide (mf_P ca sb ss tb ts x (mf_S s) = f.toInt)) 128 := by
  constructor
  · refine ⟨?_, ?_, ?_, ?_, ?_⟩
    · intro w hw z
      have := wl_tr W (show w < 9 by omega) (show 7 < 9 by omega) (show 8 < 9 by omega) ((ht w hw).mp z.1) ((hr w hw).mp z.2)
      rw [wl_78 W] at this
      exact absurd this (by decide)
    · intro a b ha hb z y
      exact (ht b hb).mpr (wl_tr W (show a < 9 by omega) (by omega) (by omega) ((ht a ha).mp z) y)
    · intro a b ha hb z y
      exact (hr a ha).mpr (wl_tr W (show b < 9 by omega) (by omega) (by omega) y ((hr b hb).mp z))
    · intro w hw z
      exact (ht w hw).mpr z
    · intro w hw z
      exact (hr w hw).mpr z
  · apply yt_cc
    intro s hs
    rw [cn_bt]
    constructor
    · exact fun z => z.1
    · intro z
      have e : mf_P ca sb ss tb ts x (mf_S s) = f.toInt := of_decide_eq_true z
      refine ⟨z, ?_, ?_⟩
      · intro v hv y
        rw [← mf_Sl hv]
        exact wl_sub W e (show 7 < 9 by omega) (by omega) (mf_S7 s) ((ht v hv).mp y)
      · intro v hv y
        apply mb_nt
        intro g
        have := wl_sub W e (show v < 9 by omega) (show 8 < 9 by omega) (by rw [mf_Sl hv]; exact g) ((hr v hv).mp y)
        rw [mf_S8] at this
        exact absurd this (by decide)
end
end
section
/-! the component's count: walks of unsettled, reaching, branch, countClosed -/
theorem mb_and0 (x : Int32) {v : Nat} (hv : v < 32) : x &&& ((1 : Int32) <<< (nI v &&& 31)) = 0 ↔ bt x v = false := by
  constructor
  · intro h
    have k : bt (x &&& ((1 : Int32) <<< (nI v &&& 31))) v = bt 0 v := by rw [h]
    rw [b_and, mb_shl v hv v hv, b_0, decide_eq_true rfl, Bool.and_true] at k
    exact k
  · intro h
    apply b_ext
    intro i hi
    rw [b_and, mb_shl v hv i hi, b_0]
    by_cases e : i = v
    · rw [e, h, Bool.false_and]
    · rw [decide_eq_false e, Bool.and_false]
def cn_T : Nat → Nat
  | 0 => 1
  | u + 1 => 2 * cn_T u + 3
theorem cn_T1 : ∀ u, 1 ≤ cn_T u
  | 0 => Nat.le_refl _
  | u + 1 => by
    show 1 ≤ 2 * cn_T u + 3
    omega
section
variable {wf fl : Int32} {ca sb ss tb ts le qu cm re ta rf sg : Nat → Int32}
theorem xu_2 {post : Int32 → Prop} {l v : Nat} (hl : l < 9) (hv : v ≤ 7) (hset : ∀ w, w < v → bt (ta l) w = true ∨ bt (rf l) w = true) (hun : v < 7 → bt (ta l) v = false ∧ bt (rf l) v = false) (hp : post (nI v)) :
    ∀ d w, w + d = v → wX_unsettled_2 post (nI l) wf fl ca sb ss tb ts le qu cm re ta rf sg (d + 1) (nI w)
  | 0, w, h => by
    have e : w = v := by omega
    subst e
    have el : (nI l).toNatClampNeg = l := nI_clamp (by omega)
    have vl : vp_in (nI l) 9 := vp_in_nI hl (by omega)
    rw [wX_unsettled_2]
    dsimp only
    rw [el]
    by_cases e7 : w = 7
    · subst e7
      exact br_t (by decide) hp
    · refine br_f (nI_ge (b := 7) (by omega) (by decide)) ⟨vl, vl, mb_in (by omega) (fun hb => ?_) (fun hb => br_t rfl hp)⟩
      obtain ⟨a, b⟩ := hun (by omega)
      rw [b_or, a, b] at hb
      exact absurd hb (by decide)
  | d + 1, w, h => by
    have el : (nI l).toNatClampNeg = l := nI_clamp (by omega)
    have vl : vp_in (nI l) 9 := vp_in_nI hl (by omega)
    have ih := xu_2 hl hv hset hun hp d (w + 1) (by omega)
    rw [wX_unsettled_2]
    dsimp only
    rw [el]
    refine br_f (nI_ge (b := 7) (by omega) (by decide)) ⟨vl, vl, mb_in (by omega) (fun hb => br_f (by decide) (nm_r (nI_1 w) ih)) (fun hb => ?_)⟩
    rw [b_or] at hb
    rcases hset w (by omega) with z | z
    · rw [z, Bool.true_or] at hb
      exact absurd hb (by decide)
    · rw [z, Bool.or_true] at hb
      exact absurd hb (by decide)
theorem xu_un {post : Int32 → Prop} {l v : Nat} (hl : l < 9) (hv : v ≤ 7) (hset : ∀ w, w < v → bt (ta l) w = true ∨ bt (rf l) w = true) (hun : v < 7 → bt (ta l) v = false ∧ bt (rf l) v = false) (hp : post (nI v)) :
    wpX_unsettled post (wf, fl, ca, sb, ss, tb, ts, le, qu, cm, re, ta, rf, sg) (nI l) := ⟨v + 1, xu_2 hl hv hset hun hp v 0 (by omega)⟩
theorem xr_4 {post : Int32 → Prop} {v : Nat} (hv : v < 9) (hp : ∀ z : Int32, (∀ i, i < 32 → (bt z i = true ↔ (i < 7 ∧ bt (re i) v = true))) → post z) :
    ∀ (d w : Nat) (z : Int32), w + d = 7 → (∀ i, i < 32 → (bt z i = true ↔ (i < w ∧ bt (re i) v = true))) → wX_reaching_4 post ((1 : Int32) <<< (nI v &&& 31)) wf fl ca sb ss tb ts le qu cm re ta rf sg (d + 1) z (nI w)
  | 0, w, z, h, I => by
    have e : w = 7 := by omega
    subst e
    exact br_t (by decide) (hp z I)
  | d + 1, w, z, h, I => by
    have ew : (nI w).toNatClampNeg = w := nI_clamp (by omega)
    rw [wX_reaching_4]
    dsimp only
    rw [ew]
    refine br_f (nI_ge (b := 7) (by omega) (by decide)) ⟨vp_in_nI (by omega) (by omega), br_c (fun hb => nm_r (nI_1 w) ?_) (fun hb => nm_e (nm_r (nI_1 w) ?_))⟩
    · rw [mb_and0 _ (by omega)] at hb
      refine xr_4 hv hp d (w + 1) z (by omega) (fun i hi => ?_)
      rw [I i hi]
      constructor
      · exact fun y => ⟨by omega, y.2⟩
      · intro y
        refine ⟨?_, y.2⟩
        by_cases e : i = w
        · rw [e, hb] at y
          exact absurd y.2 (by decide)
        · omega
    · rw [mb_and0 _ (by omega)] at hb
      refine xr_4 hv hp d (w + 1) _ (by omega) (fun i hi => ?_)
      rw [cr_or, I i hi, mb_shl w (by omega) i hi, decide_eq_true_eq]
      constructor
      · intro y
        rcases y with y | y
        · exact ⟨by omega, y.2⟩
        · rw [y]
          exact ⟨by omega, mb_nf hb⟩
      · intro y
        by_cases e : i = w
        · exact Or.inr e
        · exact Or.inl ⟨by omega, y.2⟩
theorem xr_reach {post : Int32 → Prop} {v : Nat} (hv : v < 9) (hp : ∀ z : Int32, (∀ i, i < 32 → (bt z i = true ↔ (i < 7 ∧ bt (re i) v = true))) → post z) : wpX_reaching post (wf, fl, ca, sb, ss, tb, ts, le, qu, cm, re, ta, rf, sg) ((1 : Int32) <<< (nI v &&& 31)) :=
  ⟨8, xr_4 hv hp 7 0 0 rfl (fun i hi => by
    rw [b_0]
    constructor
    · intro y
      exact absurd y (by decide)
    · intro y
      exact absurd y.1 (Nat.not_lt_zero _))⟩
theorem xb_109 {post : SX → Prop} {l : Nat} {z : Int32} (hl : l + 1 < 9) (hp : post (wf, fl, ca, sb, ss, tb, ts, le, qu, cm, re, ta, upd rf (l + 1) z, upd sg (l + 1) 0)) : wX_branch_109 post (nI l) z (nI (l + 1)) wf fl ca sb ss tb ts le qu cm re ta rf sg := by
  have e1 : (nI (l + 1)).toNatClampNeg = l + 1 := nI_clamp (by omega)
  have v1 : vp_in (nI (l + 1)) 9 := vp_in_nI hl (by omega)
  unfold wX_branch_109
  rw [nI_1 l, e1]
  exact ⟨v1, nm_e ⟨v1, nm_e hp⟩⟩
theorem xb_take {post : SX → Prop} {l v : Nat} (hl : l + 1 < 9) (hv : v < 7) (h0 : sg l = 0)
    (hp : post (wf, fl, ca, sb, ss, tb, ts, le, qu, cm, re, upd ta (l + 1) (ta l ||| (re v &&& 127)), upd rf (l + 1) (rf l), upd (upd sg l 1) (l + 1) 0)) : wpX_branch post (wf, fl, ca, sb, ss, tb, ts, le, qu, cm, re, ta, rf, sg) (nI l) (nI v) := by
  have el : (nI l).toNatClampNeg = l := nI_clamp (by omega)
  have e1 : (nI (l + 1)).toNatClampNeg = l + 1 := nI_clamp (by omega)
  have ev : (nI v).toNatClampNeg = v := nI_clamp (by omega)
  have vl : vp_in (nI l) 9 := vp_in_nI (by omega) (by omega)
  have v1 : vp_in (nI (l + 1)) 9 := vp_in_nI hl (by omega)
  have vv : vp_in (nI v) 9 := vp_in_nI (by omega) (by omega)
  unfold wpX_branch
  dsimp only
  refine ⟨vl, br_t (by rw [el]; exact h0) ?_⟩
  unfold wX_branch_14
  rw [el, ev]
  refine ⟨vl, vl, nm_r (e' := upd sg l 1) (by rw [h0]; rfl) (br_f (by decide) ⟨vv, ?_⟩)⟩
  unfold wX_branch_48
  rw [el, nI_1 l]
  refine br_f (by decide) ⟨vl, ?_⟩
  unfold wX_branch_79
  rw [el, e1, nI_1 l]
  exact ⟨v1, nm_e (br_f (by decide) ⟨vl, xb_109 hl hp⟩)⟩
theorem xb_ref {post : SX → Prop} {l v : Nat} (hl : l + 1 < 9) (hv : v < 7) (h1 : sg l = 1)
    (hp : ∀ z : Int32, (∀ i, i < 32 → (bt z i = true ↔ (i < 7 ∧ bt (re i) v = true))) → post (wf, fl, ca, sb, ss, tb, ts, le, qu, cm, re, upd ta (l + 1) (ta l), upd rf (l + 1) (rf l ||| z), upd (upd sg l 2) (l + 1) 0)) : wpX_branch post (wf, fl, ca, sb, ss, tb, ts, le, qu, cm, re, ta, rf, sg) (nI l) (nI v) := by
  have el : (nI l).toNatClampNeg = l := nI_clamp (by omega)
  have e1 : (nI (l + 1)).toNatClampNeg = l + 1 := nI_clamp (by omega)
  have vl : vp_in (nI l) 9 := vp_in_nI (by omega) (by omega)
  have v1 : vp_in (nI (l + 1)) 9 := vp_in_nI hl (by omega)
  unfold wpX_branch
  dsimp only
  refine ⟨vl, br_f (by rw [el, h1]; decide) ?_⟩
  unfold wX_branch_14
  rw [el]
  refine ⟨vl, vl, nm_r (e' := upd sg l 2) (by rw [h1]; rfl) (br_t rfl (xr_reach (by omega) (fun z hz => ?_)))⟩
  unfold wX_branch_48
  rw [el, nI_1 l]
  refine br_t rfl ⟨vl, ?_⟩
  unfold wX_branch_79
  rw [el, e1, nI_1 l]
  exact ⟨v1, nm_e (br_t rfl ⟨vl, xb_109 hl (hp z hz)⟩)⟩
theorem xk_38 {post : Int32 → SX → Prop} {x : Int32} (W : mf_WK ca sb ss tb ts x le fl re) : ∀ (u l c st n : Nat) (ta rf sg : Nat → Int32), l + u ≤ 7 → cn_u (ta l) (rf l) ≤ u → cn_C re (ta l) (rf l) → sg l = 0 → st + cn_T u ≤ 4000 → n + st = 4001 →
    (∀ (st' n' : Nat) (ta' rf' sg' : Nat → Int32), (∀ j, j < l → ta' j = ta j ∧ rf' j = rf j ∧ sg' j = sg j) → st' ≤ st + cn_T u → n' + st' = 4001 →
      wX_countClosed_38 post n' (nI (c + cn_N (fun s => decide (mf_P ca sb ss tb ts x (mf_S s) = fl.toInt)) (ta l) (rf l))) (nI l + (-1)) (nI st') wf fl ca sb ss tb ts le qu cm re ta' rf' sg') →
    wX_countClosed_38 post n (nI c) (nI l) (nI st) wf fl ca sb ss tb ts le qu cm re ta rf sg := by
  have leaf : ∀ (u l c st n : Nat) (ta rf sg : Nat → Int32), l ≤ 7 → cn_C re (ta l) (rf l) → st + cn_T u ≤ 4000 → n + st = 4001 → (∀ v, v < 7 → bt (ta l) v = true ∨ bt (rf l) v = true) →
    (∀ (st' n' : Nat) (ta' rf' sg' : Nat → Int32), (∀ j, j < l → ta' j = ta j ∧ rf' j = rf j ∧ sg' j = sg j) → st' ≤ st + cn_T u → n' + st' = 4001 →
      wX_countClosed_38 post n' (nI (c + cn_N (fun s => decide (mf_P ca sb ss tb ts x (mf_S s) = fl.toInt)) (ta l) (rf l))) (nI l + (-1)) (nI st') wf fl ca sb ss tb ts le qu cm re ta' rf' sg') →
    wX_countClosed_38 post n (nI c) (nI l) (nI st) wf fl ca sb ss tb ts le qu cm re ta rf sg := by
    intro u l c st n ta rf sg hl hC hst hn ha K
    have t1 := cn_T1 u
    obtain ⟨n, rfl⟩ : ∃ m, n = m + 1 := ⟨n - 1, by omega⟩
    have k := K (st + 1) n ta rf sg (fun j _ => ⟨rfl, rfl, rfl⟩) (by omega) (by omega)
    rw [cn_leaf W hC ha] at k
    exact br_f (nI_ge (b := 4000) (by omega) (by decide)) (br_f (nI_pos (by omega)) (xu_un (v := 7) (by omega) (by omega) (fun w hw => ha w hw) (fun z => absurd z (by decide)) (br_t rfl (nm_r (nI_1 c) (nm_e (nm_r (nI_1 st) k))))))
  intro u
  induction u with
  | zero =>
    intro l c st n ta rf sg hl hu hC h0 hst hn K
    refine leaf 0 l c st n ta rf sg (by omega) hC hst hn (fun v hv => ?_) K
    by_cases z : bt (ta l) v = true
    · exact Or.inl z
    · by_cases y : bt (rf l) v = true
      · exact Or.inr y
      · have k := yt_ct (p := fun _ => false) (q := fun v => !(bt (ta l) v || bt (rf l) v)) (v := v) 7 hv (fun i hi q => absurd q (by decide)) (cn_us.mpr ⟨mb_nt z, mb_nt y⟩) (by decide)
        have k2 : yt_c (fun v => !(bt (ta l) v || bt (rf l) v)) 7 ≤ 0 := hu
        omega
  | succ u ih =>
    intro l c st n ta rf sg hl hu hC h0 hst hn K
    by_cases ha : ∀ v, v < 7 → bt (ta l) v = true ∨ bt (rf l) v = true
    · exact leaf (u + 1) l c st n ta rf sg (by omega) hC hst hn ha K
    · have hex : ∃ v, v < 7 ∧ ¬ (bt (ta l) v = true ∨ bt (rf l) v = true) := by
        apply Classical.byContradiction
        intro z
        apply ha
        intro v hv
        apply Classical.byContradiction
        intro y
        exact z ⟨v, hv, y⟩
      obtain ⟨v, ⟨hv, hvn⟩, hmin⟩ := pk_least _ hex
      have hset : ∀ w, w < v → bt (ta l) w = true ∨ bt (rf l) w = true := by
        intro w hw
        apply Classical.byContradiction
        intro y
        exact hmin w hw ⟨by omega, y⟩
      have tv : bt (ta l) v = false := mb_nt (fun z => hvn (Or.inl z))
      have rv : bt (rf l) v = false := mb_nt (fun z => hvn (Or.inr z))
      have v7 : ¬ nI v = 7 := by
        show ¬ nI v = nI 7
        rw [nI_eq (by omega) (by omega)]
        omega
      have el : (nI l).toNatClampNeg = l := nI_clamp (by omega)
      have vl : vp_in (nI l) 9 := vp_in_nI (by omega) (by omega)
      have rfl1 : bt (re v) v = true := W.2.2.2.1 v (by omega)
      have hTt : ∀ w, w < 7 → (bt (ta l ||| (re v &&& 127)) w = true ↔ (bt (ta l) w = true ∨ bt (re v) w = true)) := by
        intro w hw
        rw [cr_or, xs_small _ (by omega)]
        constructor
        · intro z
          rcases z with z | z
          · exact Or.inl z
          · exact Or.inr z.2
        · intro z
          rcases z with z | z
          · exact Or.inl z
          · exact Or.inr ⟨hw, z⟩
      have hTu : cn_T (u + 1) = 2 * cn_T u + 3 := rfl
      have hu' : yt_c (fun v => !(bt (ta l) v || bt (rf l) v)) 7 ≤ u + 1 := hu
      obtain ⟨n1, rfl⟩ : ∃ m, n = m + 1 := ⟨n - 1, by omega⟩
      refine br_f (nI_ge (b := 4000) (by omega) (by decide)) (br_f (nI_pos (by omega)) (xu_un (v := v) (by omega) (by omega) hset (fun _ => ⟨tv, rv⟩) (br_f v7 ⟨vl, br_f (by rw [el, h0]; decide) (xb_take (by omega) hv h0 (nm_r (nI_1 l) (nm_r (nI_1 st) ?_)))⟩)))
      refine ih (l + 1) c (st + 1) n1 _ _ _ (by omega) ?_ ?_ pk_us (by omega) (by omega) ?_
      · rw [pk_us, pk_us]
        have k := yt_ct (p := fun w => !(bt (ta l ||| (re v &&& 127)) w || bt (rf l) w)) (q := fun v => !(bt (ta l) v || bt (rf l) v)) (v := v) 7 hv (fun i hi z => by
          rw [cn_us] at z ⊢
          refine ⟨mb_nt (fun y => ?_), z.2⟩
          have := (hTt i hi).mpr (Or.inl y)
          rw [z.1] at this
          exact absurd this (by decide)) (cn_us.mpr ⟨tv, rv⟩) (fun z => by
          rw [cn_us] at z
          have := (hTt v hv).mpr (Or.inr rfl1)
          rw [z.1] at this
          exact absurd this (by decide))
        unfold cn_u
        omega
      · rw [pk_us, pk_us]
        exact cn_take W hv hC rv hTt
      · intro st2 n2 ta2 rf2 sg2 hag hst2 hn2
        rw [pk_us, pk_us, pk_m1]
        obtain ⟨at2, ar2, as2⟩ := hag l (by omega)
        rw [pk_un (by omega)] at at2 ar2
        rw [pk_un (by omega), pk_us] at as2
        obtain ⟨n3, rfl⟩ : ∃ m, n2 = m + 1 := ⟨n2 - 1, by omega⟩
        refine br_f (nI_ge (b := 4000) (by omega) (by decide)) (br_f (nI_pos (by omega)) (xu_un (v := v) (by omega) (by omega) (by rw [at2, ar2]; exact hset) (fun _ => by rw [at2, ar2]; exact ⟨tv, rv⟩) (br_f v7 ⟨vl, br_f (by rw [el, as2]; decide) (xb_ref (by omega) hv as2 (fun z hz => nm_r (nI_1 l) (nm_r (nI_1 st2) ?_)))⟩)))
        have hTr : ∀ w, w < 7 → (bt (rf l ||| z) w = true ↔ (bt (rf l) w = true ∨ bt (re w) v = true)) := by
          intro w hw
          rw [cr_or, hz w (by omega)]
          constructor
          · intro y
            rcases y with y | y
            · exact Or.inl y
            · exact Or.inr y.2
          · intro y
            rcases y with y | y
            · exact Or.inl y
            · exact Or.inr ⟨hw, y⟩
        refine ih (l + 1) _ (st2 + 1) n3 _ _ _ (by omega) ?_ ?_ pk_us (by omega) (by omega) ?_
        · rw [pk_us, pk_us, at2, ar2]
          have k := yt_ct (p := fun w => !(bt (ta l) w || bt (rf l ||| z) w)) (q := fun v => !(bt (ta l) v || bt (rf l) v)) (v := v) 7 hv (fun i hi y => by
            rw [cn_us] at y ⊢
            refine ⟨y.1, mb_nt (fun y' => ?_)⟩
            have := (hTr i hi).mpr (Or.inl y')
            rw [y.2] at this
            exact absurd this (by decide)) (cn_us.mpr ⟨tv, rv⟩) (fun y => by
            rw [cn_us] at y
            have := (hTr v hv).mpr (Or.inr rfl1)
            rw [y.2] at this
            exact absurd this (by decide))
          unfold cn_u
          omega
        · rw [pk_us, pk_us, at2, ar2]
          exact cn_refuse W hv hC tv hTr
        · intro st4 n4 ta4 rf4 sg4 hag4 hst4 hn4
          rw [pk_us, pk_us, pk_m1, at2, ar2]
          obtain ⟨at4, ar4, as4⟩ := hag4 l (by omega)
          rw [pk_un (by omega)] at at4 ar4
          rw [pk_un (by omega), pk_us] at as4
          obtain ⟨n5, rfl⟩ : ∃ m, n4 = m + 1 := ⟨n4 - 1, by omega⟩
          refine br_f (nI_ge (b := 4000) (by omega) (by decide)) (br_f (nI_pos (by omega)) (xu_un (v := v) (by omega) (by omega) (by rw [at4, ar4, at2, ar2]; exact hset) (fun _ => by rw [at4, ar4, at2, ar2]; exact ⟨tv, rv⟩) (br_f v7 ⟨vl, br_t (by rw [el, as4]) (nm_e (nm_r (nI_1 st4) ?_))⟩)))
          have k := K (st4 + 1) n5 ta4 rf4 sg4 (fun j hj => by
            obtain ⟨b1, b2, b3⟩ := hag4 j (by omega)
            obtain ⟨d1, d2, d3⟩ := hag j (by omega)
            rw [pk_un (by omega)] at b1 b2 d1 d2
            rw [pk_un (by omega), pk_un (by omega)] at b3 d3
            exact ⟨b1.trans d1, b2.trans d2, b3.trans d3⟩) (by omega) (by omega)
          rw [cn_split W hv hTt hTr, ← Nat.add_assoc] at k
          exact k
theorem xk_count {post : Int32 → SX → Prop} {x : Int32} (W : mf_WK ca sb ss tb ts x le fl re)
    (hp : ∀ (ta rf sg : Nat → Int32), post (nI (yt_c (fun s => decide (mf_P ca sb ss tb ts x (mf_S s) = fl.toInt)) 128)) (wf, fl, ca, sb, ss, tb, ts, le, qu, cm, re, ta, rf, sg)) : wpX_countClosed post (wf, fl, ca, sb, ss, tb, ts, le, qu, cm, re, ta, rf, sg) := by
  unfold wpX_countClosed
  dsimp only
  refine nm_e (xs_great (fun z hz => nm_e (nm_e ⟨4001, ?_⟩)))
  have hT : ∀ w, w < 7 → (bt (re 7 &&& 127) w = true ↔ bt (re 7) w = true) := by
    intro w hw
    rw [xs_small _ (by omega)]
    exact ⟨fun y => y.2, fun y => ⟨hw, y⟩⟩
  have hr : ∀ w, w < 7 → (bt (127 &&& (z ^^^ (-1))) w = true ↔ bt (re w) 8 = true) := by
    intro w hw
    rw [b_and, b_xor, b_m1 w (by omega), mb_127 w (by omega), decide_eq_true hw, Bool.true_and]
    have k := hz w (by omega)
    cases q : bt (re w) 8 with
    | true =>
      have k1 : bt z w = false := mb_nt (fun y => by
        have := (k.mp y).2
        rw [q] at this
        exact absurd this (by decide))
      rw [k1]
      decide
    | false =>
      rw [k.mpr ⟨hw, q⟩]
      decide
  obtain ⟨hC, hN⟩ := cn_top W hT hr
  refine xk_38 W 7 0 0 0 4001 _ _ _ (by omega) ?_ ?_ pk_us (by decide) rfl ?_
  · rw [pk_us, pk_us]
    have k := yt_cl (p := fun v => !(bt (re 7 &&& 127) v || bt (127 &&& (z ^^^ (-1))) v)) (q := fun _ => true) 7 (fun i hi _ => rfl)
    exact k
  · rw [pk_us, pk_us]
    exact hC
  · intro st n ta' rf' sg' _ hst hn
    rw [pk_us, pk_us, hN, Nat.zero_add]
    have t7 : cn_T 7 = 509 := by decide
    obtain ⟨n1, rfl⟩ : ∃ m, n = m + 1 := ⟨n - 1, by omega⟩
    exact br_f (nI_ge (b := 4000) (by omega) (by decide)) (br_t (by decide) (hp ta' rf' sg'))
end
end
section
/-! spare: the component's leastApart, the reference's loop -/
def lk_L (ca : Nat → Int32) (u v : Nat) (c : Int32) : Nat → Int32 := upd (upd ca (u * 7 + v) c) (v * 7 + u) c
theorem lk_lk {ca : Nat → Int32} {u v : Nat} {c c' : Int32} : lk_L (lk_L ca u v c) u v c' = lk_L ca u v c' := by
  funext i
  unfold lk_L
  by_cases h : i = v * 7 + u
  · rw [h, pk_us, pk_us]
  · rw [pk_un h, pk_un h]
    by_cases h2 : i = u * 7 + v
    · rw [h2, pk_us, pk_us]
    · rw [pk_un h2, pk_un h2, pk_un h, pk_un h2]
theorem lk_id {ca : Nat → Int32} {u v : Nat} {c : Int32} (h1 : ca (u * 7 + v) = c) (h2 : ca (v * 7 + u) = c) : lk_L ca u v c = ca := by
  funext i
  unfold lk_L
  by_cases h : i = v * 7 + u
  · rw [h, pk_us, h2]
  · rw [pk_un h]
    by_cases h3 : i = u * 7 + v
    · rw [h3, pk_us, h1]
    · rw [pk_un h3]
theorem lk_v {ca : Nat → Int32} {u v a b : Nat} {c : Int32} (hu : u < 7) (hv : v < 7) (ha : a < 7) (hb : b < 7) : lk_L ca u v c (a * 7 + b) = if (a = u ∧ b = v) ∨ (a = v ∧ b = u) then c else ca (a * 7 + b) := by
  unfold lk_L
  by_cases h : a = v ∧ b = u
  · rw [if_pos (Or.inr h), h.1, h.2, pk_us]
  · by_cases h2 : a = u ∧ b = v
    · rw [if_pos (Or.inl h2), pk_un (by omega), h2.1, h2.2, pk_us]
    · rw [if_neg (fun z => by
        rcases z with z | z
        · exact h2 z
        · exact h z), pk_un (by omega), pk_un (by omega)]
theorem lk_R {ca sb ss tb ts : Nat → Int32} {u v : Nat} {c : Int32} (hR : mr_R ca sb ss tb ts) (hu : u < 7) (hv : v < 7) (h0 : 0 ≤ c.toInt) (h1 : c.toInt ≤ 20) : mr_R (lk_L ca u v c) sb ss tb ts := by
  refine ⟨fun a b ha hb => ?_, hR.2.1, hR.2.2⟩
  rw [lk_v hu hv ha hb, lk_v hu hv hb ha]
  by_cases h : (a = u ∧ b = v) ∨ (a = v ∧ b = u)
  · rw [if_pos h, if_pos (by omega)]
    exact ⟨h0, h1, rfl⟩
  · rw [if_neg h, if_neg (by omega)]
    exact hR.1 a b ha hb
theorem mf_cut_c {L L' : Nat → Int32} {S : Nat → Bool} (h : ∀ a b, a < 9 → b < 9 → L (a * 9 + b) = L' (a * 9 + b)) : mf_cut L S = mf_cut L' S := by
  unfold mf_cut
  apply mf_sm_c
  intro a ha
  apply mf_sm_c
  intro b hb
  unfold mf_g
  rw [h a b ha hb]
theorem mf_T4 {ca ca' sb ss tb ts : Nat → Int32} {x : Int32} {i : Nat} (h : ¬ (i / 9 < 7 ∧ i % 9 < 7)) : mf_T ca sb ss tb ts x i = mf_T ca' sb ss tb ts x i := by
  unfold mf_T
  rw [if_neg h, if_neg h]
theorem lk_P {ca sb ss tb ts : Nat → Int32} {x c : Int32} {u v : Nat} {S : Nat → Bool} (h7 : S 7 = true) (h8 : S 8 = false) (hR : mr_R ca sb ss tb ts) (hu : u < 7) (hv : v < 7) (hne : u ≠ v) (h0 : 0 ≤ c.toInt) (h1 : c.toInt ≤ 20) :
    mf_P (lk_L ca u v c) sb ss tb ts x S = mf_P ca sb ss tb ts x S + (if S u = S v then 0 else c.toInt - (ca (u * 7 + v)).toInt) := by
  rw [← mr_cut (L := mf_T ca sb ss tb ts x) hR (fun _ _ => rfl) h7 h8, ← mr_cut (L := mf_T (lk_L ca u v c) sb ss tb ts x) (lk_R hR hu hv h0 h1) (fun _ _ => rfl) h7 h8]
  rw [mf_cut_c (L := mf_T (lk_L ca u v c) sb ss tb ts x) (L' := upd (upd (mf_T ca sb ss tb ts x) (u * 9 + v) c) (v * 9 + u) c)]
  · rw [mf_cut_u (by omega) (by omega), mf_cut_u (by omega) (by omega), pk_un (by omega), mf_T1 hu hv, mf_T1 hv hu, (hR.1 v u hv hu).2.2]
    cases S u <;> cases S v <;> simp
  · intro a b ha hb
    by_cases h : a < 7 ∧ b < 7
    · rw [mf_T1 h.1 h.2, lk_v hu hv h.1 h.2]
      by_cases z : a = v ∧ b = u
      · rw [if_pos (Or.inr z), z.1, z.2, pk_us]
      · rw [pk_un (by omega)]
        by_cases y : a = u ∧ b = v
        · rw [if_pos (Or.inl y), y.1, y.2, pk_us]
        · rw [pk_un (by omega), if_neg (by omega), mf_T1 h.1 h.2]
    · rw [pk_un (by omega), pk_un (by omega)]
      exact mf_T4 (by omega)
def yl_A (P : Nat → Int) (u v : Nat) (m : Int) : Prop := (∀ t, t < 128 → t.testBit u = true → t.testBit v = false → m ≤ P t) ∧ ∃ t, t < 128 ∧ t.testBit u = true ∧ t.testBit v = false ∧ P t = m
def yl_D (P : Nat → Int) (u v : Nat) (m : Int) : Prop := (∀ t, t < 128 → ¬ t.testBit u = t.testBit v → m ≤ P t) ∧ ∃ t, t < 128 ∧ ¬ t.testBit u = t.testBit v ∧ P t = m
theorem yl_AD {P : Nat → Int} {u v : Nat} {m1 m2 m : Int} (h1 : yl_A P u v m1) (h2 : yl_A P v u m2) (hm : (m = m1 ∧ m1 ≤ m2) ∨ (m = m2 ∧ m2 ≤ m1)) : yl_D P u v m := by
  constructor
  · intro t ht hn
    cases hu : t.testBit u with
    | true =>
      have hv : t.testBit v = false := by
        apply mb_nt
        intro z
        rw [hu, z] at hn
        exact hn rfl
      have := h1.1 t ht hu hv
      omega
    | false =>
      have hv : t.testBit v = true := by
        apply mb_nf
        intro z
        rw [hu, z] at hn
        exact hn rfl
      have := h2.1 t ht hv hu
      omega
  · rcases hm with ⟨e, _⟩ | ⟨e, _⟩
    · obtain ⟨t, ht, a, b, k⟩ := h1.2
      exact ⟨t, ht, by rw [a, b]; decide, by rw [k, e]⟩
    · obtain ⟨t, ht, a, b, k⟩ := h2.2
      exact ⟨t, ht, by rw [a, b]; decide, by rw [k, e]⟩
theorem sp_num {P Q : Nat → Int} {u v : Nat} {low sep d m : Int} (hlow : yl_M P low) (hsep : yl_D P u v sep) (hd : 0 ≤ d)
    (hQ : ∀ t, t < 128 → Q t = P t + (if t.testBit u = t.testBit v then 0 else -d)) (hm : yl_M Q m) : m = low ↔ d ≤ sep - low := by
  constructor
  · intro e
    obtain ⟨t, ht, hn, k⟩ := hsep.2
    have a := hm.1 t ht
    have b := hQ t ht
    rw [if_neg hn] at b
    omega
  · intro h
    apply yl_u hm
    constructor
    · intro t ht
      rw [hQ t ht]
      by_cases z : t.testBit u = t.testBit v
      · rw [if_pos z]
        have := hlow.1 t ht
        omega
      · rw [if_neg z]
        have := hsep.1 t ht z
        omega
    · obtain ⟨t, ht, k⟩ := hlow.2
      refine ⟨t, ht, ?_⟩
      rw [hQ t ht]
      by_cases z : t.testBit u = t.testBit v
      · rw [if_pos z]
        omega
      · rw [if_neg z]
        have := hsep.1 t ht z
        omega
section
variable {wf fl : Int32} {ca sb ss tb ts le qu cm re ta rf sg se : Nat → Int32}
theorem xa_val {L : Nat → Int32} {k u v : Nat} (hk : k ≤ 50) (hu : u < 7) (hv : v < 7) (hR : mr_R ca sb ss tb ts) (hL : ∀ i, i < 81 → L i = mf_T ca sb ss tb ts (nI k) i) {i : Nat} (hi : i < 81) :
    (upd (upd L (7 * 9 + u) (L (7 * 9 + u) + 100000)) (v * 9 + 8) (L (v * 9 + 8) + 100000) i).toInt = (mf_T ca sb ss tb ts (nI k) i).toInt + (if i = 7 * 9 + u then 100000 else 0) + (if i = v * 9 + 8 then 100000 else 0) := by
  have e5 : (100000 : Int32).toInt = 100000 := by decide
  have b1 := mr_T (i := 7 * 9 + u) hk hR
  have b2 := mr_T (i := v * 9 + 8) hk hR
  by_cases h1 : i = v * 9 + 8
  · rw [h1, pk_us, if_pos rfl, if_neg (by omega), mo_ta (by rw [hL _ (by omega)]; omega) (by rw [hL _ (by omega)]; omega), hL _ (by omega), e5]
    omega
  · rw [pk_un h1, if_neg h1]
    by_cases h2 : i = 7 * 9 + u
    · rw [h2, pk_us, if_pos rfl, mo_ta (by rw [hL _ (by omega)]; omega) (by rw [hL _ (by omega)]; omega), hL _ (by omega), e5]
      omega
    · rw [pk_un h2, if_neg h2, hL i hi]
      omega
theorem xa_apart {post : Int32 → SX → Prop} {k u v : Nat} (hk : k ≤ 50) (hu : u < 7) (hv : v < 7) (hne : u ≠ v) (hR : mr_R ca sb ss tb ts)
    (hp : ∀ (fl : Int32) (le qu cm : Nat → Int32), yl_A (fun t => mf_P ca sb ss tb ts (nI k) (mf_S t)) u v fl.toInt → post fl ((-1), fl, ca, sb, ss, tb, ts, le, qu, cm, re, ta, rf, sg)) : wpX_leastApart post (wf, fl, ca, sb, ss, tb, ts, le, qu, cm, re, ta, rf, sg) (nI u) (nI v) (nI k) := by
  unfold wpX_leastApart
  refine xl_load (fun L hL => ?_)
  have e1 : (63 + nI u : Int32) = nI (7 * 9 + u) := mi_63 u
  have c1 : (nI (7 * 9 + u)).toNatClampNeg = 7 * 9 + u := nI_clamp (by omega)
  have c2 : (nI (v * 9 + 8)).toNatClampNeg = v * 9 + 8 := nI_clamp (by omega)
  have v1 : vp_in (63 + nI u) 81 := by
    rw [e1]
    exact vp_in_nI (by omega) (by omega)
  have v2 : vp_in (nI v * 9 + 8) 81 := by
    rw [mi_98]
    exact vp_in_nI (by omega) (by omega)
  have val := fun (i : Nat) (hi : i < 81) => xa_val hk hu hv hR hL hi
  have hc : ∀ S : Nat → Bool, S 7 = true → S 8 = false → mf_cut (upd (upd L (7 * 9 + u) (L (7 * 9 + u) + 100000)) (v * 9 + 8) (L (v * 9 + 8) + 100000)) S = mf_P ca sb ss tb ts (nI k) S + (if S u = true then 0 else 100000) + (if S v = true then 100000 else 0) := by
    intro S s7 s8
    have w1 := val (7 * 9 + u) (by omega)
    have w2 := val (v * 9 + 8) (by omega)
    rw [pk_un (by omega), pk_us, if_pos rfl, if_neg (by omega), ← hL _ (by omega)] at w1
    rw [pk_us, if_pos rfl, if_neg (by omega), ← hL _ (by omega)] at w2
    rw [mf_cut_u (by omega) (by omega), mf_cut_u (by omega) (by omega), mr_cut hR hL s7 s8, pk_un (by omega), s7, s8, w1, w2]
    cases S u <;> cases S v <;> simp <;> omega
  refine And.intro v1 (And.intro v1 (nm_r (e' := upd L (7 * 9 + u) (L (7 * 9 + u) + 100000)) (by rw [e1, c1]) (And.intro v2 (And.intro v2 (nm_r (e' := upd (upd L (7 * 9 + u) (L (7 * 9 + u) + 100000)) (v * 9 + 8) (L (v * 9 + 8) + 100000)) (by rw [mi_98, c2, pk_un (by omega)]) (xg_grow ?_ ?_ ?_ (fun fl' L' qu' cm' Z => hp fl' L' qu' cm' ?_)))))))
  · intro a b ha hb
    rw [val (a * 9 + b) (by omega), val (b * 9 + a) (by omega)]
    have b1 := mr_T (i := a * 9 + b) hk hR
    have b2 := mr_T (i := b * 9 + a) hk hR
    split <;> split <;> split <;> split <;> omega
  · rw [val 71 (by omega), if_neg (by omega), if_neg (by omega), mf_T0 (by omega)]
    rfl
  · intro a b ha hb
    rw [val (a * 9 + b) (by omega), if_neg (by omega), if_neg (by omega), mf_T1 ha hb]
    have := (hR.1 a b ha hb).2.1
    omega
  · obtain ⟨z1, z2, R, r7, r8, rc⟩ := Z
    have up : ∀ t, t < 128 → t.testBit u = true → t.testBit v = false → fl'.toInt ≤ mf_P ca sb ss tb ts (nI k) (mf_S t) := by
      intro t ht tu tv
      have a := z2 (mf_S t) (mf_S7 t) (mf_S8 t)
      rw [hc _ (mf_S7 t) (mf_S8 t), mf_Sl hu, mf_Sl hv, tu, tv, if_pos rfl, if_neg (by decide)] at a
      have b := mf_cut_n (S := mf_S t) z1
      omega
    refine ⟨up, ?_⟩
    have a := z2 R r7 r8
    rw [(mf_cut_0 z1).mpr rc, hc R r7 r8] at a
    have p0 := mr_P hk hR R
    obtain ⟨t0, ht0, hb0⟩ := mf_mk (fun w => w == u) 7
    have q0 := up t0 ht0 (by rw [hb0 u hu]; exact beq_self_eq_true u) (by rw [hb0 v hv]; exact beq_eq_false_iff_ne.mpr (fun z => hne z.symm))
    have q1 := mr_P hk hR (mf_S t0)
    have ru : R u = true := by
      apply mb_nf
      intro z
      rw [z, if_neg (by decide)] at a
      split at a <;> omega
    have rv : R v = false := by
      apply mb_nt
      intro z
      rw [z, if_pos rfl] at a
      split at a <;> omega
    rw [ru, rv, if_pos rfl, if_neg (by decide)] at a
    obtain ⟨s, hs, hb⟩ := mf_mk R 7
    refine ⟨s, hs, by rw [hb u hu]; exact ru, by rw [hb v hv]; exact rv, ?_⟩
    show mf_P ca sb ss tb ts (nI k) (mf_S s) = fl'.toInt
    rw [mf_P_c (S' := R) (fun w hw => by rw [mf_Sl hw]; exact hb w hw)]
    omega
theorem yk_link {post : Int32 → SY → Prop} {u v c : Nat} (hu : u < 7) (hv : v < 7) (hne : u ≠ v) (hc : c ≤ 20) (hp : post (ca (u * 7 + v)) (lk_L ca u v (nI c), sb, ss, tb, ts, se)) : wpY_link post (ca, sb, ss, tb, ts, se) (nI u) (nI v) (nI c) := by
  have e1 : (nI (u * 7 + v)).toNatClampNeg = u * 7 + v := nI_clamp (by omega)
  have e2 : (nI (v * 7 + u)).toNatClampNeg = v * 7 + u := nI_clamp (by omega)
  have v1 : vp_in (nI (u * 7 + v)) 49 := vp_in_nI (by omega) (by omega)
  have v2 : vp_in (nI (v * 7 + u)) 49 := vp_in_nI (by omega) (by omega)
  have huv : ¬ nI u = nI v := by
    rw [nI_eq (by omega) (by omega)]
    exact hne
  unfold wpY_link
  refine yd_ok hu (br_f (by decide) (yd_ok hv (br_f (by decide) (br_f huv (br_f (nI_pos (by omega)) (br_t (nI_le (b := 20) hc (by decide)) ?_))))))
  rw [mi_7, mi_7, e1, e2]
  exact ⟨v1, nm_e ⟨v1, nm_e ⟨v2, nm_e hp⟩⟩⟩
theorem yk_114 {post : Int32 → SY → Prop} {u v c o : Nat} {x6 : Int32} (hu : u < 7) (hv : v < 7) (hne : u ≠ v) (ho : o ≤ 20) (h1 : ca (u * 7 + v) = nI o) (h2 : ca (v * 7 + u) = nI o) (hp : post x6 (ca, sb, ss, tb, ts, se)) : wY_spare_114 post (nI u) (nI v) (nI o) x6 (lk_L ca u v (nI c)) sb ss tb ts se := by
  unfold wY_spare_114
  refine yk_link hu hv hne ho ?_
  rw [lk_lk, lk_id h1 h2]
  exact hp
theorem yk_60 {post : Int32 → SY → Prop} {k u v o : Nat} {low sep : Int} (hk : k ≤ 50) (hu : u < 7) (hv : v < 7) (hne : u ≠ v) (hR : mr_R ca sb ss tb ts) (ho : o ≤ 20) (h1 : ca (u * 7 + v) = nI o) (h2 : ca (v * 7 + u) = nI o)
    (hlow : yl_M (fun t => mf_P ca sb ss tb ts (nI k) (mf_S t)) low) (hsep : yl_D (fun t => mf_P ca sb ss tb ts (nI k) (mf_S t)) u v sep)
    (hp : ∀ l : Nat, (l = o ∧ (o : Int) ≤ sep - low) ∨ (l < o ∧ (l : Int) = sep - low) → post (nI l) (ca, sb, ss, tb, ts, se)) :
    ∀ d l c, l + d = o → (l : Int) ≤ sep - low → wY_spare_60 post (nI u) (nI v) (nI k) (nI o) (Int32.ofInt low) (d + 2) (nI l) 1 (lk_L ca u v (nI c)) sb ss tb ts se
  | 0, l, c, h, hl => by
    have e : l = o := by omega
    subst e
    exact br_f (by decide) (br_t (nI_le (Nat.le_refl _) (by omega)) (yk_114 hu hv hne ho h1 h2 (hp l (Or.inl ⟨rfl, hl⟩))))
  | d + 1, l, c, h, hl => by
    have ec : nI o - nI l - 1 = nI (o - l - 1) := by
      rw [pk_sub (by omega), show o - l = (o - l - 1) + 1 by omega, nI_pred]
      rfl
    have t1 : (nI (o - l - 1)).toInt = ((o - l - 1 : Nat) : Int) := nI_toInt (by omega)
    have t2 : (nI o).toInt = (o : Int) := nI_toInt (by omega)
    have hR' : mr_R (lk_L ca u v (nI (o - l - 1))) sb ss tb ts := lk_R hR hu hv (by omega) (by omega)
    have num : ∀ m, yl_M (fun t => mf_P (lk_L ca u v (nI (o - l - 1))) sb ss tb ts (nI k) (mf_S t)) m → (m = low ↔ ((l + 1 : Nat) : Int) ≤ sep - low) := by
      intro m hm
      refine sp_num hlow hsep (by omega) (fun t ht => ?_) hm
      show mf_P (lk_L ca u v (nI (o - l - 1))) sb ss tb ts (nI k) (mf_S t) = mf_P ca sb ss tb ts (nI k) (mf_S t) + _
      rw [lk_P (mf_S7 t) (mf_S8 t) hR hu hv hne (by omega) (by omega), mf_Sl hu, mf_Sl hv, h1, t1, t2]
      split <;> omega
    have ih := fun hl' => yk_60 hk hu hv hne hR ho h1 h2 hlow hsep hp d (l + 1) (o - l - 1) (by omega) hl'
    refine br_f (by decide) (br_f (nI_ge (by omega) (by omega)) ?_)
    rw [ec]
    refine yk_link hu hv hne (by omega) ?_
    rw [lk_lk]
    refine yl_least hk hR' (fun m hm => br_c (fun e => ?_) (fun e => ?_))
    · rw [mo_eq (yl_in hk hR' hm) (yl_in hk hR hlow)] at e
      exact br_f (by decide) (nm_r (nI_1 l) (ih ((num m hm).mp e)))
    · rw [mo_eq (yl_in hk hR' hm) (yl_in hk hR hlow)] at e
      refine br_t rfl (br_t rfl (yk_114 hu hv hne ho h1 h2 (hp l (Or.inr ⟨by omega, ?_⟩))))
      have z : ¬ ((l + 1 : Nat) : Int) ≤ sep - low := fun z => e ((num m hm).mpr z)
      omega
theorem yk_spare {post : Int32 → SY → Prop} {k u v o : Nat} {low sep : Int} (hk : k ≤ 50) (hu : u < 7) (hv : v < 7) (hne : u ≠ v) (hR : mr_R ca sb ss tb ts) (ho : o ≤ 20) (h1 : ca (u * 7 + v) = nI o)
    (hlow : yl_M (fun t => mf_P ca sb ss tb ts (nI k) (mf_S t)) low) (hsep : yl_D (fun t => mf_P ca sb ss tb ts (nI k) (mf_S t)) u v sep)
    (hp : ∀ l : Nat, (l = o ∧ (o : Int) ≤ sep - low) ∨ (l < o ∧ (l : Int) = sep - low) → post (nI l) (ca, sb, ss, tb, ts, se)) : wpY_spare post (ca, sb, ss, tb, ts, se) (nI u) (nI v) (nI k) := by
  have h2 : ca (v * 7 + u) = nI o := by rw [← (hR.1 u v hu hv).2.2, h1]
  have e1 : (nI (u * 7 + v)).toNatClampNeg = u * 7 + v := nI_clamp (by omega)
  have v1 : vp_in (nI (u * 7 + v)) 49 := vp_in_nI (by omega) (by omega)
  have huv : ¬ nI u = nI v := by
    rw [nI_eq (by omega) (by omega)]
    exact hne
  unfold wpY_spare
  refine yd_ok hu (br_f (by decide) (yd_ok hv (br_f (by decide) (br_f huv (yn_ok hk (br_f (by decide) ?_))))))
  rw [mi_7, e1, h1]
  refine ⟨v1, nm_e (yl_least hk hR (fun m hm => ⟨o + 2, ?_⟩))⟩
  rw [yl_u hm hlow]
  have ge : low ≤ sep := by
    obtain ⟨t, ht, _, k⟩ := hsep.2
    rw [← k]
    exact hlow.1 t ht
  have k := yk_60 (se := se) hk hu hv hne hR ho h1 h2 hlow hsep hp o 0 o (by omega) (by omega)
  rw [lk_id h1 h2] at k
  exact k
end
end
section
/-! over all values: worst and stages, in lockstep; flip -/
def rl_W (ca sb ss tb ts : Nat → Int32) (wf fl : Int32) (le re : Nat → Int32) : Prop := wf = -1 ∨ ∃ k : Nat, k ≤ 50 ∧ wf = nI k ∧ mf_WK ca sb ss tb ts (nI k) le fl re
theorem rl_use {ca sb ss tb ts le re : Nat → Int32} {wf fl : Int32} (h : rl_W ca sb ss tb ts wf fl le re) {k : Nat} (hk : k ≤ 50) : wf = nI k → mf_WK ca sb ss tb ts (nI k) le fl re := by
  intro e
  rcases h with z | ⟨j, hj, z, w⟩
  · have a := nI_pos (n := k) (by omega)
    rw [← e, z] at a
    exact absurd (by decide) a
  · rw [z, nI_eq (by omega) (by omega)] at e
    subst e
    exact w
theorem yl_ex0 (P : Nat → Int) : ∀ n, ∃ m, (∀ t, t < n + 1 → m ≤ P t) ∧ ∃ t, t < n + 1 ∧ P t = m
  | 0 => ⟨P 0, fun t ht => by
      have e : t = 0 := by omega
      rw [e]
      exact Int.le_refl _, 0, by omega, rfl⟩
  | n + 1 => by
    obtain ⟨m, h1, t, ht, e⟩ := yl_ex0 P n
    by_cases z : m ≤ P (n + 1)
    · refine ⟨m, fun s hs => ?_, t, by omega, e⟩
      by_cases y : s = n + 1
      · rw [y]
        exact z
      · exact h1 s (by omega)
    · refine ⟨P (n + 1), fun s hs => ?_, n + 1, by omega, rfl⟩
      by_cases y : s = n + 1
      · rw [y]
        exact Int.le_refl _
      · have := h1 s (by omega)
        omega
theorem yl_ex (P : Nat → Int) : ∃ m, yl_M P m := yl_ex0 P 127
theorem xs_sm {wf fl : Int32} {ca sb ss tb ts le qu cm re ta rf sg : Nat → Int32} {post : Int32 → Prop} {z : Int32} (h : re 7 &&& 127 = z) (hp : post z) : wpX_smallestSide post (wf, fl, ca, sb, ss, tb, ts, le, qu, cm, re, ta, rf, sg) := by
  subst h
  exact hp
def sg_sp (P : Nat → Int) (z : Int32) : Prop := ∃ m, yl_M P m ∧ ∀ i, i < 32 → (bt z i = true ↔ (i < 7 ∧ ∀ t, t < 128 → P t = m → t.testBit i = true))
theorem sg_u {P : Nat → Int} {z z' : Int32} (h : sg_sp P z) (h' : sg_sp P z') : z = z' := by
  obtain ⟨m, hm, hz⟩ := h
  obtain ⟨m', hm', hz'⟩ := h'
  have e := yl_u hm hm'
  subst e
  apply b_ext
  intro i hi
  have k : bt z i = true ↔ bt z' i = true := by rw [hz i hi, hz' i hi]
  cases q : bt z' i with
  | true => exact k.mpr q
  | false =>
    apply mb_nt
    intro y
    have := k.mp y
    rw [q] at this
    exact absurd this (by decide)
theorem sg_ex (P : Nat → Int) : ∃ a, a < 128 ∧ sg_sp P (nI a) := by
  obtain ⟨m, hm⟩ := yl_ex P
  obtain ⟨s, hs, hb⟩ := mf_mk (fun v => cn_b (∀ t, t < 128 → P t = m → t.testBit v = true)) 7
  refine ⟨s, hs, m, hm, fun i hi => ?_⟩
  rw [mb_nI s hi]
  by_cases z : i < 7
  · rw [hb i z, cn_bt]
    exact ⟨fun y => ⟨z, y⟩, fun y => y.2⟩
  · have h7 : 2 ^ 7 ≤ 2 ^ i := Nat.pow_le_pow_right (by decide) (by omega)
    rw [Nat.testBit_lt_two_pow (by omega)]
    exact ⟨fun y => absurd y (by decide), fun y => absurd y.1 z⟩
theorem sg_W {ca sb ss tb ts L re : Nat → Int32} {x f : Int32} (W : mf_WK ca sb ss tb ts x L f re) : sg_sp (fun t => mf_P ca sb ss tb ts x (mf_S t)) (re 7 &&& 127) := by
  refine ⟨f.toInt, wl_min W, fun i hi => ?_⟩
  rw [xs_small _ hi]
  constructor
  · exact fun y => ⟨y.1, (wl_always W y.1).mp y.2⟩
  · exact fun y => ⟨y.1, (wl_always W y.1).mpr y.2⟩
theorem wl_f {ca sb ss tb ts L re : Nat → Int32} {x f : Int32} {m : Int} (W : mf_WK ca sb ss tb ts x L f re) (hm : yl_M (fun t => mf_P ca sb ss tb ts x (mf_S t)) m) : f = Int32.ofInt m := by
  rw [← yl_u (wl_min W) hm, Int32.ofInt_toInt]
section
variable {ca sb ss tb ts ta rf sg : Nat → Int32}
theorem xy_worst (hR : mr_R ca sb ss tb ts) : ∀ (d x b : Nat) (m : Int32), x + d = 51 → ∃ r : Int32,
    (∀ (post : Int32 → SX → Prop) (wf fl : Int32) (le qu cm re : Nat → Int32), rl_W ca sb ss tb ts wf fl le re → (∀ (wf fl : Int32) (le qu cm re : Nat → Int32), rl_W ca sb ss tb ts wf fl le re → post r (wf, fl, ca, sb, ss, tb, ts, le, qu, cm, re, ta, rf, sg)) → wX_worst_6 post (d + 1) (nI b) m (nI x) wf fl ca sb ss tb ts le qu cm re ta rf sg) ∧
    (∀ (post : Int32 → Prop) (se : Nat → Int32), post r → wY_worst_10 post ca sb ss tb ts se (d + 1) (nI b) m (nI x))
  | 0, x, b, m, h => by
    have e : x = 51 := by omega
    subst e
    exact ⟨nI b, fun post wf fl le qu cm re hw hp => br_t (by decide) (hp wf fl le qu cm re hw), fun post se hp => br_t (by decide) hp⟩
  | d + 1, x, b, m, h => by
    have hx : x ≤ 50 := by omega
    have hn : ¬ (50 : Int32) < nI x := nI_nlt (a := 50) hx (by decide)
    obtain ⟨mx, hmx⟩ := yl_ex (fun t => mf_P ca sb ss tb ts (nI x) (mf_S t))
    by_cases hc : Int32.ofInt mx ≤ m
    · obtain ⟨r, h1, h2⟩ := xy_worst hR d (x + 1) b m (by omega)
      refine ⟨r, fun post wf fl le qu cm re hw hp => br_f hn (xw_work hx hR (rl_use hw hx) (fun fl' le' qu' cm' re' W => br_t ?_ (nm_r (nI_1 x) (h1 post _ _ _ _ _ _ (Or.inr ⟨x, hx, rfl, W⟩) hp)))), fun post se hp => br_f hn (yl_least hx hR (fun m' hm' => br_t ?_ (nm_r (nI_1 x) (h2 post se hp))))⟩
      · rw [wl_f W hmx]
        exact hc
      · rw [yl_u hm' hmx]
        exact hc
    · obtain ⟨r, h1, h2⟩ := xy_worst hR d (x + 1) x (Int32.ofInt mx) (by omega)
      refine ⟨r, fun post wf fl le qu cm re hw hp => br_f hn (xw_work hx hR (rl_use hw hx) (fun fl' le' qu' cm' re' W => br_f ?_ (nm_r (nI_1 x) ?_))), fun post se hp => br_f hn (yl_least hx hR (fun m' hm' => br_f ?_ (nm_r (nI_1 x) ?_)))⟩
      · rw [wl_f W hmx]
        exact hc
      · have k := h1 post (nI x) fl' le' qu' cm' re' (Or.inr ⟨x, hx, rfl, W⟩) hp
        rw [← wl_f W hmx] at k
        exact k
      · rw [yl_u hm' hmx]
        exact hc
      · rw [yl_u hm' hmx]
        exact h2 post se hp
theorem xy_worstT (hR : mr_R ca sb ss tb ts) : ∃ r : Int32,
    (∀ (post : Int32 → SX → Prop) (wf fl : Int32) (le qu cm re : Nat → Int32), rl_W ca sb ss tb ts wf fl le re → (∀ (wf fl : Int32) (le qu cm re : Nat → Int32), rl_W ca sb ss tb ts wf fl le re → post r (wf, fl, ca, sb, ss, tb, ts, le, qu, cm, re, ta, rf, sg)) → wpX_worst post (wf, fl, ca, sb, ss, tb, ts, le, qu, cm, re, ta, rf, sg)) ∧
    (∀ (post : Int32 → Prop) (se : Nat → Int32), post r → wpY_worst post (ca, sb, ss, tb, ts, se)) := by
  obtain ⟨mx, hmx⟩ := yl_ex (fun t => mf_P ca sb ss tb ts (nI 0) (mf_S t))
  obtain ⟨r, h1, h2⟩ := xy_worst (ta := ta) (rf := rf) (sg := sg) hR 50 1 0 (Int32.ofInt mx) rfl
  refine ⟨r, fun post wf fl le qu cm re hw hp => ⟨52, br_f (by decide) (xw_work (k := 0) (by omega) hR (rl_use hw (by omega)) (fun fl' le' qu' cm' re' W => br_f ?_ (nm_r (nI_1 0) ?_)))⟩, fun post se hp => ?_⟩
  · rw [wl_f W hmx, Int32.le_iff_toInt_le, mo_toInt (yl_in (by omega) hR hmx)]
    have a := (yl_in (by omega) hR hmx).1
    have b : (-1 : Int32).toInt = -1 := by decide
    omega
  · have k := h1 post (nI 0) fl' le' qu' cm' re' (Or.inr ⟨0, by omega, rfl, W⟩) hp
    rw [← wl_f W hmx] at k
    exact k
  · unfold wpY_worst
    refine yl_least (k := 0) (by omega) hR (fun m' hm' => ⟨51, ?_⟩)
    rw [yl_u hm' hmx]
    exact h2 post se hp
theorem st_bit : ∀ j, j < 64 → ((1 : Int64) <<< ((nI j).toInt64 &&& 63)).toBitVec = BitVec.twoPow 64 j := by decide +kernel
theorem st_and {w m : Int64} {j : Nat} (hj : j < 64) (hm : m.toBitVec = BitVec.twoPow 64 j) : (w &&& m) = 0 ↔ w.toBitVec.getLsbD j = false := by
  rw [← Int64.toBitVec_inj, Int64.toBitVec_and, hm, BitVec.and_twoPow]
  show _ = 0#64 ↔ _
  cases h : w.toBitVec.getLsbD j with
  | false => exact ⟨fun _ => rfl, fun _ => if_neg (by decide)⟩
  | true =>
    constructor
    · intro z
      rw [if_pos rfl] at z
      have k : (BitVec.twoPow 64 j).getLsbD j = (0#64).getLsbD j := by rw [z]
      rw [BitVec.getLsbD_twoPow] at k
      simp [hj] at k
    · intro z
      exact absurd z (by decide)
theorem st_or {w m : Int64} {i j : Nat} (hj : j < 64) (hm : m.toBitVec = BitVec.twoPow 64 j) : (w ||| m).toBitVec.getLsbD i = true ↔ (w.toBitVec.getLsbD i = true ∨ i = j) := by
  rw [Int64.toBitVec_or, hm, BitVec.getLsbD_or, BitVec.getLsbD_twoPow, Bool.or_eq_true, Bool.and_eq_true, decide_eq_true_eq, decide_eq_true_eq]
  constructor
  · intro z
    rcases z with z | z
    · exact Or.inl z
    · exact Or.inr z.2.symm
  · intro z
    rcases z with z | z
    · exact Or.inl z
    · exact Or.inr ⟨hj, z.symm⟩
def sg_Q (lo hi : Int64) (se : Nat → Int32) : Prop := ∀ j, j < 64 → ((lo.toBitVec.getLsbD j = true ↔ ¬ se j = 0) ∧ (hi.toBitVec.getLsbD j = true ↔ ¬ se (64 + j) = 0))
theorem sg_lo {lo hi m : Int64} {se : Nat → Int32} {a : Nat} (ha : a < 64) (hm : m.toBitVec = BitVec.twoPow 64 a) (h : sg_Q lo hi se) : sg_Q (lo ||| m) hi (upd se a 1) := by
  intro j hj
  refine ⟨?_, ?_⟩
  · rw [st_or ha hm, (h j hj).1]
    by_cases e : j = a
    · rw [e, pk_us]
      exact ⟨fun _ => by decide, fun _ => Or.inr rfl⟩
    · rw [pk_un e]
      exact ⟨fun z => by
        rcases z with z | z
        · exact z
        · exact absurd z e, Or.inl⟩
  · rw [pk_un (by omega)]
    exact (h j hj).2
theorem sg_hi {lo hi m : Int64} {se : Nat → Int32} {a : Nat} (ha : a < 64) (hm : m.toBitVec = BitVec.twoPow 64 a) (h : sg_Q lo hi se) : sg_Q lo (hi ||| m) (upd se (64 + a) 1) := by
  intro j hj
  refine ⟨?_, ?_⟩
  · rw [pk_un (by omega)]
    exact (h j hj).1
  · rw [st_or ha hm, (h j hj).2]
    by_cases e : j = a
    · rw [e, pk_us]
      exact ⟨fun _ => by decide, fun _ => Or.inr rfl⟩
    · rw [pk_un (by omega)]
      exact ⟨fun z => by
        rcases z with z | z
        · exact z
        · exact absurd z e, Or.inl⟩
/-- one turn of the reference's loop at a known side -/
theorem ys_26 {post : Int32 → SY → Prop} {se : Nat → Int32} {n x c a : Nat} (hx : x ≤ 50) (hR : mr_R ca sb ss tb ts) (ha : a < 128) (hz : sg_sp (fun t => mf_P ca sb ss tb ts (nI x) (mf_S t)) (nI a))
    (h : wY_stages_26 post n (nI (if se a = 0 then c + 1 else c)) (nI (x + 1)) ca sb ss tb ts (upd se a 1)) : wY_stages_26 post (n + 1) (nI c) (nI x) ca sb ss tb ts se := by
  have ea : (nI a).toNatClampNeg = a := nI_clamp (by omega)
  have va : vp_in (nI a) 128 := vp_in_nI ha (by omega)
  refine br_f (nI_nlt (a := 50) hx (by decide)) (ya_always hx hR (fun m z hm hzz => ?_))
  have e : z = nI a := sg_u ⟨m, hm, hzz⟩ hz
  subst e
  rw [ea]
  refine ⟨va, br_c (fun q => nm_r (nI_1 c) ⟨va, nm_e (nm_r (nI_1 x) ?_)⟩) (fun q => ⟨va, nm_e (nm_r (nI_1 x) ?_)⟩)⟩
  · rw [if_pos q] at h
    exact h
  · rw [if_neg q] at h
    exact h
theorem xy_stages (hR : mr_R ca sb ss tb ts) : ∀ (d x c : Nat) (lo hi : Int64), x + d = 51 → ∃ r : Int32,
    (∀ (post : Int32 → SX → Prop) (wf fl : Int32) (le qu cm re : Nat → Int32), rl_W ca sb ss tb ts wf fl le re → (∀ (wf fl : Int32) (le qu cm re : Nat → Int32), rl_W ca sb ss tb ts wf fl le re → post r (wf, fl, ca, sb, ss, tb, ts, le, qu, cm, re, ta, rf, sg)) → wX_stages_10 post (d + 1) lo hi (nI c) (nI x) wf fl ca sb ss tb ts le qu cm re ta rf sg) ∧
    (∀ (post : Int32 → SY → Prop) (se : Nat → Int32), sg_Q lo hi se → (∀ se, post r (ca, sb, ss, tb, ts, se)) → wY_stages_26 post (d + 1) (nI c) (nI x) ca sb ss tb ts se)
  | 0, x, c, lo, hi, h => by
    have e : x = 51 := by omega
    subst e
    exact ⟨nI c, fun post wf fl le qu cm re hw hp => br_t (by decide) (hp wf fl le qu cm re hw), fun post se _ hp => br_t (by decide) (hp se)⟩
  | d + 1, x, c, lo, hi, h => by
    have hx : x ≤ 50 := by omega
    have hn : ¬ (50 : Int32) < nI x := nI_nlt (a := 50) hx (by decide)
    obtain ⟨a, ha, hz⟩ := sg_ex (fun t => mf_P ca sb ss tb ts (nI x) (mf_S t))
    have e63 : nI a &&& 63 = nI (a % 64) := pk_andN (by omega) 6 (by decide)
    have hbit := st_bit (a % 64) (Nat.mod_lt _ (by decide))
    have hm64 : a % 64 < 64 := Nat.mod_lt _ (by decide)
    by_cases hc : 64 ≤ a
    · have h64 : (64 : Int32) ≤ nI a := nI_le (a := 64) hc (by omega)
      have ea : 64 + a % 64 = a := by omega
      by_cases hb : hi.toBitVec.getLsbD (a % 64) = false
      · obtain ⟨r, h1, h2⟩ := xy_stages hR d (x + 1) (c + 1) lo (hi ||| ((1 : Int64) <<< ((nI (a % 64)).toInt64 &&& 63))) (by omega)
        refine ⟨r, fun post wf fl le qu cm re hw hp => ?_, fun post se hq hp => ys_26 hx hR ha hz ?_⟩
        · exact br_f hn (xw_work hx hR (rl_use hw hx) (fun fl' le' qu' cm' re' W => xs_sm (sg_u (sg_W W) hz) (nm_r (by rw [e63]) (br_t h64 (br_t ((st_and hm64 hbit).mpr hb) (br_t rfl (nm_r (nI_1 c) (br_t h64 (nm_e (nm_r (nI_1 x) (h1 post _ _ _ _ _ _ (Or.inr ⟨x, hx, rfl, W⟩) hp)))))))))))
        · have q := (hq (a % 64) hm64).2
          rw [hb, ea] at q
          have q0 : se a = 0 := Classical.byContradiction (fun z => absurd (q.mpr z) (by decide))
          have k := sg_hi hm64 hbit hq
          rw [ea] at k
          rw [if_pos q0]
          exact h2 post _ k hp
      · obtain ⟨r, h1, h2⟩ := xy_stages hR d (x + 1) c lo (hi ||| ((1 : Int64) <<< ((nI (a % 64)).toInt64 &&& 63))) (by omega)
        refine ⟨r, fun post wf fl le qu cm re hw hp => ?_, fun post se hq hp => ys_26 hx hR ha hz ?_⟩
        · exact br_f hn (xw_work hx hR (rl_use hw hx) (fun fl' le' qu' cm' re' W => xs_sm (sg_u (sg_W W) hz) (nm_r (by rw [e63]) (br_t h64 (br_f (fun z => hb ((st_and hm64 hbit).mp z)) (br_f (by decide) (br_t h64 (nm_e (nm_r (nI_1 x) (h1 post _ _ _ _ _ _ (Or.inr ⟨x, hx, rfl, W⟩) hp))))))))))
        · have q := (hq (a % 64) hm64).2
          rw [ea] at q
          have q0 : ¬ se a = 0 := q.mp (mb_nf hb)
          have k := sg_hi hm64 hbit hq
          rw [ea] at k
          rw [if_neg q0]
          exact h2 post _ k hp
    · have h64 : ¬ (64 : Int32) ≤ nI a := nI_ge (b := 64) (by omega) (by decide)
      have ea : a % 64 = a := by omega
      by_cases hb : lo.toBitVec.getLsbD (a % 64) = false
      · obtain ⟨r, h1, h2⟩ := xy_stages hR d (x + 1) (c + 1) (lo ||| ((1 : Int64) <<< ((nI (a % 64)).toInt64 &&& 63))) hi (by omega)
        refine ⟨r, fun post wf fl le qu cm re hw hp => ?_, fun post se hq hp => ys_26 hx hR ha hz ?_⟩
        · exact br_f hn (xw_work hx hR (rl_use hw hx) (fun fl' le' qu' cm' re' W => xs_sm (sg_u (sg_W W) hz) (nm_r (by rw [e63]) (br_f h64 (br_t ((st_and hm64 hbit).mpr hb) (br_t rfl (nm_r (nI_1 c) (br_f h64 (nm_e (nm_r (nI_1 x) (h1 post _ _ _ _ _ _ (Or.inr ⟨x, hx, rfl, W⟩) hp)))))))))))
        · have q := (hq (a % 64) hm64).1
          rw [hb, ea] at q
          have q0 : se a = 0 := Classical.byContradiction (fun z => absurd (q.mpr z) (by decide))
          have k := sg_lo hm64 hbit hq
          rw [ea] at k
          rw [ea] at h2
          rw [if_pos q0]
          exact h2 post _ k hp
      · obtain ⟨r, h1, h2⟩ := xy_stages hR d (x + 1) c (lo ||| ((1 : Int64) <<< ((nI (a % 64)).toInt64 &&& 63))) hi (by omega)
        refine ⟨r, fun post wf fl le qu cm re hw hp => ?_, fun post se hq hp => ys_26 hx hR ha hz ?_⟩
        · exact br_f hn (xw_work hx hR (rl_use hw hx) (fun fl' le' qu' cm' re' W => xs_sm (sg_u (sg_W W) hz) (nm_r (by rw [e63]) (br_f h64 (br_f (fun z => hb ((st_and hm64 hbit).mp z)) (br_f (by decide) (br_f h64 (nm_e (nm_r (nI_1 x) (h1 post _ _ _ _ _ _ (Or.inr ⟨x, hx, rfl, W⟩) hp))))))))))
        · have q := (hq (a % 64) hm64).1
          rw [ea] at q hb
          have q0 : ¬ se a = 0 := q.mp (mb_nf hb)
          have k := sg_lo hm64 hbit hq
          rw [ea] at k
          rw [ea] at h2
          rw [if_neg q0]
          exact h2 post _ k hp
theorem ys_4 {post : Int32 → SY → Prop} {x1 : Int32} (hp : ∀ se, (∀ j, j < 128 → se j = 0) → ∃ n, wY_stages_26 post n x1 0 ca sb ss tb ts se) : ∀ (d j : Nat) (se : Nat → Int32), j + d = 128 → (∀ i, i < j → se i = 0) → wY_stages_4 post x1 (d + 1) (nI j) ca sb ss tb ts se
  | 0, j, se, h, I => by
    have e : j = 128 := by omega
    subst e
    exact br_t (by decide) (hp se I)
  | d + 1, j, se, h, I => by
    have ih := ys_4 hp d (j + 1) (upd se j 0) (by omega) (by
      intro i hi
      by_cases e : i = j
      · rw [e, pk_us]
      · rw [pk_un e]
        exact I i (by omega))
    refine br_f (nI_ge (b := 128) (by omega) (by decide)) ⟨vp_in_nI (by omega) (by omega), nm_r (e' := upd se j 0) ?_ (nm_r (nI_1 j) ih)⟩
    rw [nI_clamp (by omega)]
    rfl
theorem xy_stagesT (hR : mr_R ca sb ss tb ts) : ∃ r : Int32,
    (∀ (post : Int32 → SX → Prop) (wf fl : Int32) (le qu cm re : Nat → Int32), rl_W ca sb ss tb ts wf fl le re → (∀ (wf fl : Int32) (le qu cm re : Nat → Int32), rl_W ca sb ss tb ts wf fl le re → post r (wf, fl, ca, sb, ss, tb, ts, le, qu, cm, re, ta, rf, sg)) → wpX_stages post (wf, fl, ca, sb, ss, tb, ts, le, qu, cm, re, ta, rf, sg)) ∧
    (∀ (post : Int32 → SY → Prop) (se : Nat → Int32), (∀ se, post r (ca, sb, ss, tb, ts, se)) → wpY_stages post (ca, sb, ss, tb, ts, se)) := by
  obtain ⟨r, h1, h2⟩ := xy_stages (ta := ta) (rf := rf) (sg := sg) hR 51 0 0 0 0 rfl
  refine ⟨r, fun post wf fl le qu cm re hw hp => ⟨52, h1 post wf fl le qu cm re hw hp⟩, fun post se hp => ⟨129, ys_4 (fun se' hz => ⟨52, h2 post se' (fun j hj => ?_) hp⟩) 128 0 se rfl (fun i hi => absurd hi (Nat.not_lt_zero _))⟩⟩
  have z : (0 : Int64).toBitVec.getLsbD j = false := BitVec.getLsbD_zero
  rw [z, hz j (by omega), hz (64 + j) (by omega)]
  decide
theorem fl_R {v : Nat} (hv : v < 7) (hR : mr_R ca sb ss tb ts) : mr_R ca (upd sb v (tb v)) (upd ss v (ts v)) (upd tb v (sb v)) (upd ts v (ss v)) := by
  refine ⟨hR.1, fun w hw => ?_, fun w hw => ?_⟩
  · by_cases e : w = v
    · rw [e, pk_us, pk_us]
      exact hR.2.2 v hv
    · rw [pk_un e, pk_un e]
      exact hR.2.1 w hw
  · by_cases e : w = v
    · rw [e, pk_us, pk_us]
      exact hR.2.1 v hv
    · rw [pk_un e, pk_un e]
      exact hR.2.2 w hw
end
section
variable {wf fl : Int32} {ca le qu cm re ta rf sg se : Nat → Int32}
theorem xy_flip : ∀ (d v : Nat) (sb ss tb ts : Nat → Int32), v + d = 7 → mr_R ca sb ss tb ts → ∃ sb' ss' tb' ts' : Nat → Int32, mr_R ca sb' ss' tb' ts' ∧
    (∀ post : SX → Prop, post ((-1), fl, ca, sb', ss', tb', ts', le, qu, cm, re, ta, rf, sg) → wX_flip_2 post wf fl (d + 1) (nI v) ca sb ss tb ts le qu cm re ta rf sg) ∧
    (∀ post : SY → Prop, post (ca, sb', ss', tb', ts', se) → wY_flip_2 post (d + 1) (nI v) ca sb ss tb ts se)
  | 0, v, sb, ss, tb, ts, h, hR => by
    have e : v = 7 := by omega
    subst e
    exact ⟨sb, ss, tb, ts, hR, fun post hp => br_t (by decide) hp, fun post hp => br_t (by decide) hp⟩
  | d + 1, v, sb, ss, tb, ts, h, hR => by
    have hv : v < 7 := by omega
    have ev : (nI v).toNatClampNeg = v := nI_clamp (by omega)
    have vv : vp_in (nI v) 7 := vp_in_nI hv (by omega)
    have hn : ¬ (7 : Int32) ≤ nI v := nI_ge (b := 7) hv (by decide)
    obtain ⟨sb', ss', tb', ts', r, h1, h2⟩ := xy_flip (d) (v + 1) (upd sb v (tb v)) (upd ss v (ts v)) (upd tb v (sb v)) (upd ts v (ss v)) (by omega) (fl_R hv hR)
    refine ⟨sb', ss', tb', ts', r, fun post hp => ?_, fun post hp => ?_⟩
    · rw [wX_flip_2]
      dsimp only
      rw [ev]
      exact br_f hn ⟨vv, nm_e ⟨vv, nm_e ⟨vv, vv, nm_e ⟨vv, vv, nm_e ⟨vv, nm_e ⟨vv, nm_e (nm_r (nI_1 v) (h1 post hp))⟩⟩⟩⟩⟩⟩
    · rw [wY_flip_2]
      dsimp only
      rw [ev]
      exact br_f hn ⟨vv, nm_e ⟨vv, nm_e ⟨vv, vv, nm_e ⟨vv, vv, nm_e ⟨vv, nm_e ⟨vv, nm_e (nm_r (nI_1 v) (h2 post hp))⟩⟩⟩⟩⟩⟩
end
end
section
/-! the relation; the methods that store or only price -/
/-- both sides hold the same links and pulls, in their ranges; the component's worked state is that of its value of x -/
def i_Rel (_ : Nat) (u : SX) (v : SY) : Prop :=
  ∃ (wf fl : Int32) (ca sb ss tb ts le qu cm re ta rf sg se : Nat → Int32), u = (wf, fl, ca, sb, ss, tb, ts, le, qu, cm, re, ta, rf, sg) ∧ v = (ca, sb, ss, tb, ts, se) ∧ mr_R ca sb ss tb ts ∧ rl_W ca sb ss tb ts wf fl le re
theorem rl_el {k : Nat} {u : SX} {v : SY} {G : SX → SY → Prop} (I : i_Rel k u v)
    (h : ∀ (wf fl : Int32) (ca sb ss tb ts le qu cm re ta rf sg se : Nat → Int32), mr_R ca sb ss tb ts → rl_W ca sb ss tb ts wf fl le re → G (wf, fl, ca, sb, ss, tb, ts, le, qu, cm, re, ta, rf, sg) (ca, sb, ss, tb, ts, se)) : G u v := by
  obtain ⟨wf, fl, ca, sb, ss, tb, ts, le, qu, cm, re, ta, rf, sg, se, e1, e2, hR, hW⟩ := I
  rw [e1, e2]
  exact h _ _ _ _ _ _ _ _ _ _ _ _ _ _ _ hR hW
theorem rl_mk {k : Nat} {wf fl : Int32} {ca sb ss tb ts le qu cm re ta rf sg se : Nat → Int32} (hR : mr_R ca sb ss tb ts) (hW : rl_W ca sb ss tb ts wf fl le re) : i_Rel k (wf, fl, ca, sb, ss, tb, ts, le, qu, cm, re, ta, rf, sg) (ca, sb, ss, tb, ts, se) :=
  ⟨wf, fl, ca, sb, ss, tb, ts, le, qu, cm, re, ta, rf, sg, se, rfl, rfl, hR, hW⟩
theorem i_up {k : Nat} {u : SX} {v : SY} (h : i_Rel k u v) : i_Rel (k + 4) u v := h
theorem i_vc0 : wpX_init (fun u => wpY_init (fun v => i_Rel 0 u v)) := by
  refine rl_mk (k := 0) ⟨fun u v hu hv => ?_, fun v hv => ?_, fun v hv => ?_⟩ (Or.inl rfl)
  · exact ⟨(by decide : 0 ≤ (0 : Int32).toInt), (by decide : (0 : Int32).toInt ≤ 20), rfl⟩
  · exact (by decide : 0 ≤ (0 : Int32).toInt ∧ (0 : Int32).toInt ≤ 40 ∧ -2 ≤ (0 : Int32).toInt ∧ (0 : Int32).toInt ≤ 2)
  · exact (by decide : 0 ≤ (0 : Int32).toInt ∧ (0 : Int32).toInt ≤ 40 ∧ -2 ≤ (0 : Int32).toInt ∧ (0 : Int32).toInt ≤ 2)
theorem ow_ne {u v : Nat} (hu : u < 7) (hv : v < 7) (hne : u ≠ v) : ¬ nI u = nI v := by
  rw [nI_eq (by omega) (by omega)]
  exact hne
theorem i_vc_link {k : Nat} {u : SX} {v : SY} (I : i_Rel k u v) (hk : k + 4 ≤ 2048) (v1 : Int32) (v2 : Int32) (v3 : Int32) : wpX_link (fun r u' => wpY_link (fun r' v' => r' = r ∧ i_Rel (k + 4) u' v') v v1 v2 v3) u v1 v2 v3 := by
  refine rl_el (G := fun u v => wpX_link (fun r u' => wpY_link (fun r' v' => r' = r ∧ i_Rel (k + 4) u' v') v v1 v2 v3) u v1 v2 v3) I ?_
  intro wf fl ca sb ss tb ts le qu cm re ta rf sg se hR hW
  have fin := fun k' => rl_mk (k := k') (qu := qu) (cm := cm) (ta := ta) (rf := rf) (sg := sg) (se := se) hR hW
  unfold wpX_link
  rcases mx_node v1 with ⟨u, hu, rfl⟩ | b1
  · rcases mx_node v2 with ⟨v, hv, rfl⟩ | b2
    · by_cases hne : u = v
      · subst hne
        refine xd_ok hu (br_t rfl (xd_ok hv (br_t rfl (br_t rfl ?_))))
        unfold wpY_link
        exact yd_ok hu (br_f (by decide) (yd_ok hv (br_f (by decide) (br_t rfl ⟨rfl, fin _⟩))))
      · have huv := ow_ne hu hv hne
        refine xd_ok hu (br_t rfl (xd_ok hv (br_t rfl (br_f huv ?_))))
        by_cases c0 : v3 < 0
        · refine br_t c0 ?_
          unfold wpY_link
          exact yd_ok hu (br_f (by decide) (yd_ok hv (br_f (by decide) (br_f huv (br_t c0 ⟨rfl, fin _⟩)))))
        · refine br_f c0 ?_
          by_cases c20 : v3 ≤ 20
          · obtain ⟨c, hc, rfl⟩ := nI_of c0
            have c20' : c ≤ 20 := (nI_leI hc (b := 20) (by decide)).mp c20
            have e1 : (nI (u * 7 + v)).toNatClampNeg = u * 7 + v := nI_clamp (by omega)
            have e2 : (nI (v * 7 + u)).toNatClampNeg = v * 7 + u := nI_clamp (by omega)
            have w1 : vp_in (nI (u * 7 + v)) 49 := vp_in_nI (by omega) (by omega)
            have w2 : vp_in (nI (v * 7 + u)) 49 := vp_in_nI (by omega) (by omega)
            have tc : (nI c).toInt = (c : Int) := nI_toInt hc
            refine br_t c20 ?_
            rw [mi_7, mi_7, e1, e2]
            exact ⟨w1, nm_e ⟨w1, nm_e ⟨w2, nm_e (yk_link hu hv hne c20' ⟨rfl, rl_mk (lk_R hR hu hv (by omega) (by omega)) (Or.inl rfl)⟩)⟩⟩⟩
          · refine br_f c20 ?_
            unfold wpY_link
            exact yd_ok hu (br_f (by decide) (yd_ok hv (br_f (by decide) (br_f huv (br_f c0 (br_f c20 ⟨rfl, fin _⟩))))))
    · refine xd_ok hu (br_t rfl (xd_bad b2 (br_f (by decide) ?_)))
      unfold wpY_link
      exact yd_ok hu (br_f (by decide) (yd_bad b2 (br_t rfl ⟨rfl, fin _⟩)))
  · refine xd_bad b1 (br_f (by decide) ?_)
    unfold wpY_link
    exact yd_bad b1 (br_t rfl ⟨rfl, fin _⟩)
def ow_ok (a b : Int32) : Prop := ¬ a < 0 ∧ ¬ 40 < a ∧ ¬ b < (-2) ∧ b ≤ 2
theorem ow_xk {post : Int32 → Prop} {a b : Int32} (h : ow_ok a b) (hp : post 0) : wpX_badPull post a b := br_f h.1 (br_f h.2.1 (br_f h.2.2.1 (br_t h.2.2.2 hp)))
theorem ow_xb {post : Int32 → Prop} {a b : Int32} (h : ¬ ow_ok a b) (hp : post 1) : wpX_badPull post a b :=
  br_c (fun _ => hp) (fun n1 => br_c (fun _ => hp) (fun n2 => br_c (fun _ => hp) (fun n3 => br_c (fun y => absurd ⟨n1, n2, n3, y⟩ h) (fun _ => hp))))
theorem ow_yk {post : Int32 → Prop} {a b : Int32} {ca sb ss tb ts se : Nat → Int32} (h : ow_ok a b) (hp : post 1) : wpY_isPull post (ca, sb, ss, tb, ts, se) a b :=
  br_f h.1 (br_f h.2.1 (br_f h.2.2.1 (br_f (Int32.not_lt.mpr h.2.2.2) hp)))
theorem ow_yb {post : Int32 → Prop} {a b : Int32} {ca sb ss tb ts se : Nat → Int32} (h : ¬ ow_ok a b) (hp : post 0) : wpY_isPull post (ca, sb, ss, tb, ts, se) a b :=
  br_c (fun _ => hp) (fun n1 => br_c (fun _ => hp) (fun n2 => br_c (fun _ => hp) (fun n3 => br_c (fun _ => hp) (fun y => absurd ⟨n1, n2, n3, Int32.not_lt.mp y⟩ h))))
theorem ow_r {a b : Int32} (h : ow_ok a b) : 0 ≤ a.toInt ∧ a.toInt ≤ 40 ∧ -2 ≤ b.toInt ∧ b.toInt ≤ 2 := by
  obtain ⟨h1, h2, h3, h4⟩ := h
  rw [Int32.lt_iff_toInt_lt] at h1 h2 h3
  rw [Int32.le_iff_toInt_le] at h4
  have e0 : (0 : Int32).toInt = 0 := by decide
  have e1 : (40 : Int32).toInt = 40 := by decide
  have e2 : (-2 : Int32).toInt = -2 := by decide
  have e3 : (2 : Int32).toInt = 2 := by decide
  omega
theorem ow_u {b s : Nat → Int32} {v : Nat} {x y : Int32} (hx : 0 ≤ x.toInt ∧ x.toInt ≤ 40 ∧ -2 ≤ y.toInt ∧ y.toInt ≤ 2) (h : ∀ v, v < 7 → 0 ≤ (b v).toInt ∧ (b v).toInt ≤ 40 ∧ -2 ≤ (s v).toInt ∧ (s v).toInt ≤ 2) :
    ∀ w, w < 7 → 0 ≤ (upd b v x w).toInt ∧ (upd b v x w).toInt ≤ 40 ∧ -2 ≤ (upd s v y w).toInt ∧ (upd s v y w).toInt ≤ 2 := by
  intro w hw
  by_cases e : w = v
  · rw [e, pk_us, pk_us]
    exact hx
  · rw [pk_un e, pk_un e]
    exact h w hw
theorem i_vc_toSource {k : Nat} {u : SX} {v : SY} (I : i_Rel k u v) (hk : k + 4 ≤ 2048) (v1 : Int32) (v2 : Int32) (v3 : Int32) : wpX_toSource (fun r u' => wpY_toSource (fun r' v' => r' = r ∧ i_Rel (k + 4) u' v') v v1 v2 v3) u v1 v2 v3 := by
  refine rl_el (G := fun u v => wpX_toSource (fun r u' => wpY_toSource (fun r' v' => r' = r ∧ i_Rel (k + 4) u' v') v v1 v2 v3) u v1 v2 v3) I ?_
  intro wf fl ca sb ss tb ts le qu cm re ta rf sg se hR hW
  have fin := fun k' => rl_mk (k := k') (qu := qu) (cm := cm) (ta := ta) (rf := rf) (sg := sg) (se := se) hR hW
  unfold wpX_toSource
  rcases mx_node v1 with ⟨u, hu, rfl⟩ | b1
  · by_cases hok : ow_ok v2 v3
    · have eu : (nI u).toNatClampNeg = u := nI_clamp (by omega)
      have vu : vp_in (nI u) 7 := vp_in_nI hu (by omega)
      refine xd_ok hu (br_t rfl (ow_xk hok (br_t rfl ?_)))
      rw [eu]
      refine ⟨vu, nm_e ⟨vu, nm_e ?_⟩⟩
      unfold wpY_toSource
      refine yd_ok hu (br_f (by decide) (ow_yk hok (br_f (by decide) ?_)))
      rw [eu]
      exact ⟨vu, nm_e ⟨vu, nm_e ⟨rfl, rl_mk ⟨hR.1, ow_u (ow_r hok) hR.2.1, hR.2.2⟩ (Or.inl rfl)⟩⟩⟩
    · refine xd_ok hu (br_t rfl (ow_xb hok (br_f (by decide) ?_)))
      unfold wpY_toSource
      exact yd_ok hu (br_f (by decide) (ow_yb hok (br_t rfl ⟨rfl, fin _⟩)))
  · refine xd_bad b1 (br_f (by decide) ?_)
    unfold wpY_toSource
    exact yd_bad b1 (br_t rfl ⟨rfl, fin _⟩)
theorem i_vc_toSink {k : Nat} {u : SX} {v : SY} (I : i_Rel k u v) (hk : k + 4 ≤ 2048) (v1 : Int32) (v2 : Int32) (v3 : Int32) : wpX_toSink (fun r u' => wpY_toSink (fun r' v' => r' = r ∧ i_Rel (k + 4) u' v') v v1 v2 v3) u v1 v2 v3 := by
  refine rl_el (G := fun u v => wpX_toSink (fun r u' => wpY_toSink (fun r' v' => r' = r ∧ i_Rel (k + 4) u' v') v v1 v2 v3) u v1 v2 v3) I ?_
  intro wf fl ca sb ss tb ts le qu cm re ta rf sg se hR hW
  have fin := fun k' => rl_mk (k := k') (qu := qu) (cm := cm) (ta := ta) (rf := rf) (sg := sg) (se := se) hR hW
  unfold wpX_toSink
  rcases mx_node v1 with ⟨u, hu, rfl⟩ | b1
  · by_cases hok : ow_ok v2 v3
    · have eu : (nI u).toNatClampNeg = u := nI_clamp (by omega)
      have vu : vp_in (nI u) 7 := vp_in_nI hu (by omega)
      refine xd_ok hu (br_t rfl (ow_xk hok (br_t rfl ?_)))
      rw [eu]
      refine ⟨vu, nm_e ⟨vu, nm_e ?_⟩⟩
      unfold wpY_toSink
      refine yd_ok hu (br_f (by decide) (ow_yk hok (br_f (by decide) ?_)))
      rw [eu]
      exact ⟨vu, nm_e ⟨vu, nm_e ⟨rfl, rl_mk ⟨hR.1, hR.2.1, ow_u (ow_r hok) hR.2.2⟩ (Or.inl rfl)⟩⟩⟩
    · refine xd_ok hu (br_t rfl (ow_xb hok (br_f (by decide) ?_)))
      unfold wpY_toSink
      exact yd_ok hu (br_f (by decide) (ow_yb hok (br_t rfl ⟨rfl, fin _⟩)))
  · refine xd_bad b1 (br_f (by decide) ?_)
    unfold wpY_toSink
    exact yd_bad b1 (br_t rfl ⟨rfl, fin _⟩)
theorem i_vc_flip {k : Nat} {u : SX} {v : SY} (I : i_Rel k u v) (hk : k + 4 ≤ 2048) : wpX_flip (fun u' => wpY_flip (fun v' => i_Rel (k + 4) u' v') v) u := by
  refine rl_el (G := fun u v => wpX_flip (fun u' => wpY_flip (fun v' => i_Rel (k + 4) u' v') v) u) I ?_
  intro wf fl ca sb ss tb ts le qu cm re ta rf sg se hR hW
  obtain ⟨sb', ss', tb', ts', r, h1, h2⟩ := xy_flip (wf := wf) (fl := fl) (le := le) (qu := qu) (cm := cm) (re := re) (ta := ta) (rf := rf) (sg := sg) (se := se) 7 0 sb ss tb ts rfl hR
  exact ⟨8, h1 _ ⟨8, h2 _ (rl_mk r (Or.inl rfl))⟩⟩
theorem i_vc_cost {k : Nat} {u : SX} {v : SY} (I : i_Rel k u v) (hk : k + 4 ≤ 2048) (v1 : Int32) (v2 : Int32) : wpX_cost (fun r => wpY_cost (fun r' => r' = r ∧ i_Rel (k + 4) u v) v v1 v2) u v1 v2 := by
  refine rl_el (G := fun u v => wpX_cost (fun r => wpY_cost (fun r' => r' = r ∧ i_Rel (k + 4) u v) v v1 v2) u v1 v2) I ?_
  intro wf fl ca sb ss tb ts le qu cm re ta rf sg se hR hW
  have fin := fun k' => rl_mk (k := k') (qu := qu) (cm := cm) (ta := ta) (rf := rf) (sg := sg) (se := se) hR hW
  unfold wpX_cost
  rcases mx_num v2 with ⟨x, hx, rfl⟩ | b
  · refine xn_ok hx (br_t rfl (xp_costOf ?_))
    unfold wpY_cost
    refine yn_ok hx (br_f (by decide) (yp_price ⟨?_, fin _⟩))
    congr 1
    apply mf_P_c
    intro w hw
    rw [b_and, mb_127 w (by omega), decide_eq_true hw, Bool.and_true]
  · refine xn_bad b (br_f (by decide) ?_)
    unfold wpY_cost
    exact yn_bad b (br_t rfl ⟨rfl, fin _⟩)
end
section
/-! the methods that work a value out -/
theorem i_vc_least {k : Nat} {u : SX} {v : SY} (I : i_Rel k u v) (hk : k + 4 ≤ 2048) (v1 : Int32) : wpX_least (fun r u' => wpY_least (fun r' => r' = r ∧ i_Rel (k + 4) u' v) v v1) u v1 := by
  refine rl_el (G := fun u v => wpX_least (fun r u' => wpY_least (fun r' => r' = r ∧ i_Rel (k + 4) u' v) v v1) u v1) I ?_
  intro wf fl ca sb ss tb ts le qu cm re ta rf sg se hR hW
  unfold wpX_least
  rcases mx_num v1 with ⟨x, hx, rfl⟩ | b
  · refine xn_ok hx (br_t rfl (xw_work hx hR (rl_use hW hx) (fun fl' le' qu' cm' re' W => ?_)))
    exact yl_least hx hR (fun m hm => ⟨(wl_f W hm).symm, rl_mk hR (Or.inr ⟨x, hx, rfl, W⟩)⟩)
  · refine xn_bad b (br_f (by decide) ?_)
    unfold wpY_least
    exact yn_bad b (br_t rfl ⟨rfl, rl_mk hR hW⟩)
theorem i_vc_always {k : Nat} {u : SX} {v : SY} (I : i_Rel k u v) (hk : k + 4 ≤ 2048) (v1 : Int32) : wpX_always (fun r u' => wpY_always (fun r' => r' = r ∧ i_Rel (k + 4) u' v) v v1) u v1 := by
  refine rl_el (G := fun u v => wpX_always (fun r u' => wpY_always (fun r' => r' = r ∧ i_Rel (k + 4) u' v) v v1) u v1) I ?_
  intro wf fl ca sb ss tb ts le qu cm re ta rf sg se hR hW
  unfold wpX_always
  rcases mx_num v1 with ⟨x, hx, rfl⟩ | b
  · refine xn_ok hx (br_t rfl (xw_work hx hR (rl_use hW hx) (fun fl' le' qu' cm' re' W => xs_sm rfl ?_)))
    exact ya_always hx hR (fun m z hm hz => ⟨sg_u ⟨m, hm, hz⟩ (sg_W W), rl_mk hR (Or.inr ⟨x, hx, rfl, W⟩)⟩)
  · refine xn_bad b (br_f (by decide) ?_)
    unfold wpY_always
    exact yn_bad b (br_t rfl ⟨rfl, rl_mk hR hW⟩)
theorem i_vc_ever {k : Nat} {u : SX} {v : SY} (I : i_Rel k u v) (hk : k + 4 ≤ 2048) (v1 : Int32) : wpX_ever (fun r u' => wpY_ever (fun r' => r' = r ∧ i_Rel (k + 4) u' v) v v1) u v1 := by
  refine rl_el (G := fun u v => wpX_ever (fun r u' => wpY_ever (fun r' => r' = r ∧ i_Rel (k + 4) u' v) v v1) u v1) I ?_
  intro wf fl ca sb ss tb ts le qu cm re ta rf sg se hR hW
  unfold wpX_ever
  rcases mx_num v1 with ⟨x, hx, rfl⟩ | b
  · refine xn_ok hx (br_t rfl (xw_work hx hR (rl_use hW hx) (fun fl' le' qu' cm' re' W => xs_great (fun y hy => ?_))))
    refine ye_ever hx hR (fun m z hm hz => ⟨?_, rl_mk hR (Or.inr ⟨x, hx, rfl, W⟩)⟩)
    have e := yl_u hm (wl_min W)
    subst e
    apply b_ext
    intro i hi
    have q : bt z i = true ↔ bt y i = true := by
      rw [hz i hi, hy i hi]
      constructor
      · intro h
        by_cases i7 : i < 7
        · exact ⟨i7, (wl_ever W i7).mpr h⟩
        · obtain ⟨t, ht, _, h2⟩ := h
          have h7 : 2 ^ 7 ≤ 2 ^ i := Nat.pow_le_pow_right (by decide) (by omega)
          rw [Nat.testBit_lt_two_pow (by omega)] at h2
          exact absurd h2 (by decide)
      · exact fun h => (wl_ever W h.1).mp h.2
    cases h : bt y i with
    | true => exact q.mpr h
    | false =>
      apply mb_nt
      intro g
      have := q.mp g
      rw [h] at this
      exact absurd this (by decide)
  · refine xn_bad b (br_f (by decide) ?_)
    unfold wpY_ever
    exact yn_bad b (br_t rfl ⟨rfl, rl_mk hR hW⟩)
theorem i_vc_ties {k : Nat} {u : SX} {v : SY} (I : i_Rel k u v) (hk : k + 4 ≤ 2048) (v1 : Int32) : wpX_ties (fun r u' => wpY_ties (fun r' => r' = r ∧ i_Rel (k + 4) u' v) v v1) u v1 := by
  refine rl_el (G := fun u v => wpX_ties (fun r u' => wpY_ties (fun r' => r' = r ∧ i_Rel (k + 4) u' v) v v1) u v1) I ?_
  intro wf fl ca sb ss tb ts le qu cm re ta rf sg se hR hW
  unfold wpX_ties
  rcases mx_num v1 with ⟨x, hx, rfl⟩ | b
  · refine xn_ok hx (br_t rfl (xw_work hx hR (rl_use hW hx) (fun fl' le' qu' cm' re' W => xk_count W (fun ta' rf' sg' => ?_))))
    refine yt_ties hx hR (fun m hm => ⟨?_, rl_mk hR (Or.inr ⟨x, hx, rfl, W⟩)⟩)
    rw [yl_u hm (wl_min W)]
  · refine xn_bad b (br_f (by decide) ?_)
    unfold wpY_ties
    exact yn_bad b (br_t rfl ⟨rfl, rl_mk hR hW⟩)
theorem i_vc_stages {k : Nat} {u : SX} {v : SY} (I : i_Rel k u v) (hk : k + 4 ≤ 2048) : wpX_stages (fun r u' => wpY_stages (fun r' v' => r' = r ∧ i_Rel (k + 4) u' v') v) u := by
  refine rl_el (G := fun u v => wpX_stages (fun r u' => wpY_stages (fun r' v' => r' = r ∧ i_Rel (k + 4) u' v') v) u) I ?_
  intro wf fl ca sb ss tb ts le qu cm re ta rf sg se hR hW
  obtain ⟨r, h1, h2⟩ := xy_stagesT (ta := ta) (rf := rf) (sg := sg) hR
  exact h1 _ wf fl le qu cm re hW (fun wf' fl' le' qu' cm' re' hW' => h2 _ se (fun se' => ⟨rfl, rl_mk hR hW'⟩))
theorem i_vc_worst {k : Nat} {u : SX} {v : SY} (I : i_Rel k u v) (hk : k + 4 ≤ 2048) : wpX_worst (fun r u' => wpY_worst (fun r' => r' = r ∧ i_Rel (k + 4) u' v) v) u := by
  refine rl_el (G := fun u v => wpX_worst (fun r u' => wpY_worst (fun r' => r' = r ∧ i_Rel (k + 4) u' v) v) u) I ?_
  intro wf fl ca sb ss tb ts le qu cm re ta rf sg se hR hW
  obtain ⟨r, h1, h2⟩ := xy_worstT (ta := ta) (rf := rf) (sg := sg) hR
  exact h1 _ wf fl le qu cm re hW (fun wf' fl' le' qu' cm' re' hW' => h2 _ se ⟨rfl, rl_mk hR hW'⟩)
theorem ow_68 {ca sb ss tb ts le qu cm re ta rf sg se : Nat → Int32} {fl z : Int32} {k x u v : Nat} (hx : x ≤ 50) (hu : u < 7) (hv : v < 7) (hne : u ≠ v) (hR : mr_R ca sb ss tb ts) (W : mf_WK ca sb ss tb ts (nI x) le fl re)
    (hsep : yl_D (fun t => mf_P ca sb ss tb ts (nI x) (mf_S t)) u v z.toInt) :
    wX_spare_68 (fun r u' => wpY_spare (fun r' v' => r' = r ∧ i_Rel (k + 4) u' v') (ca, sb, ss, tb, ts, se) (nI u) (nI v) (nI x)) (nI u) (nI v) z (nI x) fl ca sb ss tb ts le qu cm re ta rf sg := by
  have e1 : (nI (u * 7 + v)).toNatClampNeg = u * 7 + v := nI_clamp (by omega)
  have w1 : vp_in (nI (u * 7 + v)) 49 := vp_in_nI (by omega) (by omega)
  have r0 := hR.1 u v hu hv
  obtain ⟨o, ho, eo⟩ := nI_of (x := ca (u * 7 + v)) (by
    rw [Int32.lt_iff_toInt_lt, Int32.toInt_zero]
    omega)
  have to : (nI o).toInt = (o : Int) := nI_toInt ho
  have o20 : o ≤ 20 := by
    rw [eo] at r0
    omega
  have f0 := yl_in hx hR (wl_min W)
  have z0 : 0 ≤ z.toInt ∧ z.toInt ≤ 1820 := by
    obtain ⟨t, _, _, et⟩ := hsep.2
    rw [← et]
    exact mr_P hx hR (mf_S t)
  have ez : (z - fl).toInt = z.toInt - fl.toInt := mo_ts (by omega) (by omega)
  have hW' : rl_W ca sb ss tb ts (nI x) fl le re := Or.inr ⟨x, hx, rfl, W⟩
  unfold wX_spare_68
  rw [mi_7, e1, eo]
  refine nm_e ⟨w1, nm_e (br_c (fun q => ?_) (fun q => ?_))⟩
  · rw [Int32.le_iff_toInt_le, ez, to] at q
    refine yk_spare hx hu hv hne hR o20 eo (wl_min W) hsep (fun l hl => ⟨?_, rl_mk hR hW'⟩)
    have e : l = o := by omega
    rw [e]
  · rw [Int32.le_iff_toInt_le, ez, to] at q
    refine yk_spare hx hu hv hne hR o20 eo (wl_min W) hsep (fun l hl => ⟨?_, rl_mk hR hW'⟩)
    rw [← Int32.toInt_inj, ez, nI_toInt (by omega)]
    omega
theorem i_vc_spare {k : Nat} {u : SX} {v : SY} (I : i_Rel k u v) (hk : k + 4 ≤ 2048) (v1 : Int32) (v2 : Int32) (v3 : Int32) : wpX_spare (fun r u' => wpY_spare (fun r' v' => r' = r ∧ i_Rel (k + 4) u' v') v v1 v2 v3) u v1 v2 v3 := by
  refine rl_el (G := fun u v => wpX_spare (fun r u' => wpY_spare (fun r' v' => r' = r ∧ i_Rel (k + 4) u' v') v v1 v2 v3) u v1 v2 v3) I ?_
  intro wf fl ca sb ss tb ts le qu cm re ta rf sg se hR hW
  have fin := fun k' => rl_mk (k := k') (qu := qu) (cm := cm) (ta := ta) (rf := rf) (sg := sg) (se := se) hR hW
  unfold wpX_spare
  rcases mx_node v1 with ⟨u, hu, rfl⟩ | b1
  · rcases mx_node v2 with ⟨v, hv, rfl⟩ | b2
    · by_cases hne : u = v
      · subst hne
        refine xd_ok hu (br_t rfl (xd_ok hv (br_t rfl (br_t rfl ?_))))
        unfold wpY_spare
        exact yd_ok hu (br_f (by decide) (yd_ok hv (br_f (by decide) (br_t rfl ⟨rfl, fin _⟩))))
      · have huv := ow_ne hu hv hne
        refine xd_ok hu (br_t rfl (xd_ok hv (br_t rfl (br_f huv ?_))))
        rcases mx_num v3 with ⟨x, hx, rfl⟩ | b3
        · refine xn_ok hx (br_t rfl (xa_apart hx hu hv hne hR (fun f1 le1 qu1 cm1 A1 => xa_apart hx hv hu (fun z => hne z.symm) hR (fun f2 le2 qu2 cm2 A2 => xw_work hx hR (rl_use (Or.inl rfl) hx) (fun fl' le' qu' cm' re' W => br_c (fun c => ?_) (fun c => ?_))))))
          · rw [Int32.le_iff_toInt_le] at c
            exact ow_68 hx hu hv hne hR W (yl_AD A1 A2 (Or.inr ⟨rfl, c⟩))
          · rw [Int32.le_iff_toInt_le] at c
            exact ow_68 hx hu hv hne hR W (yl_AD A1 A2 (Or.inl ⟨rfl, by omega⟩))
        · refine xn_bad b3 (br_f (by decide) ?_)
          unfold wpY_spare
          exact yd_ok hu (br_f (by decide) (yd_ok hv (br_f (by decide) (br_f huv (yn_bad b3 (br_t rfl ⟨rfl, fin _⟩))))))
    · refine xd_ok hu (br_t rfl (xd_bad b2 (br_f (by decide) ?_)))
      unfold wpY_spare
      exact yd_ok hu (br_f (by decide) (yd_bad b2 (br_t rfl ⟨rfl, fin _⟩)))
  · refine xd_bad b1 (br_f (by decide) ?_)
    unfold wpY_spare
    exact yd_bad b1 (br_t rfl ⟨rfl, fin _⟩)
theorem ow_sep {post : Int32 → Prop} {ca sb ss tb ts le re se : Nat → Int32} {fl : Int32} {x u v : Nat} (hx : x ≤ 50) (hu : u < 7) (hv : v < 7) (hne : u ≠ v) (hR : mr_R ca sb ss tb ts) (W : mf_WK ca sb ss tb ts (nI x) le fl re)
    (h1 : (bt (re 7 ||| re u) v = false ∧ bt (re 7 ||| re u) 8 = false) → post 1) (h0 : ¬ (bt (re 7 ||| re u) v = false ∧ bt (re 7 ||| re u) 8 = false) → post 0) : wpY_separates post (ca, sb, ss, tb, ts, se) (nI u) (nI v) (nI x) := by
  unfold wpY_separates
  refine yd_ok hu (br_f (by decide) (yd_ok hv (br_f (by decide) (br_f (ow_ne hu hv hne) (yn_ok hx (br_f (by decide) (yl_least hx hR (fun m hm => ⟨129, ys_41 hx hu hv hR (yl_in hx hR hm) (fun h => h1 ?_) (fun h => h0 ?_) 128 0 rfl ?_⟩))))))))
  · rw [yl_u hm (wl_min W)] at h
    exact (wl_sep W hu hv).mpr h
  · rw [yl_u hm (wl_min W)] at h
    exact fun z => h ((wl_sep W hu hv).mp z)
  · intro z
    obtain ⟨t, ht, _⟩ := z
    exact absurd ht (Nat.not_lt_zero _)
theorem i_vc_separates {k : Nat} {u : SX} {v : SY} (I : i_Rel k u v) (hk : k + 4 ≤ 2048) (v1 : Int32) (v2 : Int32) (v3 : Int32) : wpX_separates (fun r u' => wpY_separates (fun r' => r' = r ∧ i_Rel (k + 4) u' v) v v1 v2 v3) u v1 v2 v3 := by
  refine rl_el (G := fun u v => wpX_separates (fun r u' => wpY_separates (fun r' => r' = r ∧ i_Rel (k + 4) u' v) v v1 v2 v3) u v1 v2 v3) I ?_
  intro wf fl ca sb ss tb ts le qu cm re ta rf sg se hR hW
  have fin := fun k' => rl_mk (k := k') (qu := qu) (cm := cm) (ta := ta) (rf := rf) (sg := sg) (se := se) hR hW
  unfold wpX_separates
  rcases mx_node v1 with ⟨u, hu, rfl⟩ | b1
  · rcases mx_node v2 with ⟨v, hv, rfl⟩ | b2
    · by_cases hne : u = v
      · subst hne
        refine xd_ok hu (br_t rfl (xd_ok hv (br_t rfl (br_t rfl ?_))))
        unfold wpY_separates
        exact yd_ok hu (br_f (by decide) (yd_ok hv (br_f (by decide) (br_t rfl ⟨rfl, fin _⟩))))
      · have huv := ow_ne hu hv hne
        refine xd_ok hu (br_t rfl (xd_ok hv (br_t rfl (br_f huv ?_))))
        rcases mx_num v3 with ⟨x, hx, rfl⟩ | b3
        · have eu : (nI u).toNatClampNeg = u := nI_clamp (by omega)
          refine xn_ok hx (br_t rfl (xw_work hx hR (rl_use hW hx) (fun fl' le' qu' cm' re' W => And.intro (vp_in_nI (by omega) (by omega)) (nm_r (e' := re' 7 ||| re' u) (by rw [eu]) (mb_in (by omega) (fun bv => br_f (by decide) ?_) (fun bv => br_t rfl (mb_in (v := 8) (by omega) (fun b8 => br_f (by decide) ?_) (fun b8 => br_t rfl ?_))))))))
          · refine ow_sep hx hu hv hne hR W (fun h => ?_) (fun _ => ⟨rfl, rl_mk hR (Or.inr ⟨x, hx, rfl, W⟩)⟩)
            rw [bv] at h
            exact absurd h.1 (by decide)
          · refine ow_sep hx hu hv hne hR W (fun h => ?_) (fun _ => ⟨rfl, rl_mk hR (Or.inr ⟨x, hx, rfl, W⟩)⟩)
            rw [b8] at h
            exact absurd h.2 (by decide)
          · exact ow_sep hx hu hv hne hR W (fun _ => ⟨rfl, rl_mk hR (Or.inr ⟨x, hx, rfl, W⟩)⟩) (fun h => absurd ⟨bv, b8⟩ h)
        · refine xn_bad b3 (br_f (by decide) ?_)
          unfold wpY_separates
          exact yd_ok hu (br_f (by decide) (yd_ok hv (br_f (by decide) (br_f huv (yn_bad b3 (br_t rfl ⟨rfl, fin _⟩))))))
    · refine xd_ok hu (br_t rfl (xd_bad b2 (br_f (by decide) ?_)))
      unfold wpY_separates
      exact yd_ok hu (br_f (by decide) (yd_bad b2 (br_t rfl ⟨rfl, fin _⟩)))
  · refine xd_bad b1 (br_f (by decide) ?_)
    unfold wpY_separates
    exact yd_bad b1 (br_t rfl ⟨rfl, fin _⟩)
end
