section
/-! pure rows to paste: stores, nI and lN arithmetic, masks, shifts, narrowing, branches by naturals (pk_le, pk_lt, pk_eq), loops (lp1 .. lp16: the measure of the state; rp1 ..: recursion), negatives. Take what you need -/
theorem pk_us {f : Nat → Int32} {k : Nat} {x : Int32} : upd f k x k = x := if_pos rfl
theorem pk_un {f : Nat → Int32} {k j : Nat} {x : Int32} (h : j ≠ k) : upd f k x j = f j := if_neg h
theorem pk_uLs {f : Nat → Int64} {k : Nat} {x : Int64} : vp_updL f k x k = x := if_pos rfl
theorem pk_uLn {f : Nat → Int64} {k j : Nat} {x : Int64} (h : j ≠ k) : vp_updL f k x j = f j := if_neg h
theorem pk_sub {a b : Nat} (h : b ≤ a) : nI a - nI b = nI (a - b) := by
  obtain ⟨c, rfl⟩ : ∃ c, a = c + b := ⟨a - b, by omega⟩
  rw [← nI_add, Int32.add_sub_cancel, Nat.add_sub_cancel]
theorem pk_m1 (n : Nat) : nI (n + 1) + (-1) = nI n := by
  rw [← nI_1, Int32.add_assoc, show (1 : Int32) + (-1) = 0 from rfl, Int32.add_zero]
theorem pk_mul (a b : Nat) : nI a * nI b = nI (a * b) := (Int32.ofNat_mul a b).symm
theorem pk_div {a d : Nat} (ha : a < 2 ^ 31) (h0 : 0 < d) (hd : d < 2 ^ 31) : nI a / nI d = nI (a / d) := by
  apply Int32.toInt_inj.mp
  rw [lg_idiv_nonneg (by rw [nI_toInt ha]; omega) (by rw [nI_toInt hd]; omega), nI_toInt ha, nI_toInt hd, nI_toInt (Nat.lt_of_le_of_lt (Nat.div_le_self a d) ha)]
  first | rfl | exact (Int.natCast_ediv _ _).symm
theorem pk_rem {a d : Nat} (ha : a < 2 ^ 31) (h0 : 0 < d) (hd : d < 2 ^ 31) : nI a - nI a / nI d * nI d = nI (a % d) := by
  rw [pk_div ha h0 hd, pk_mul, pk_sub (Nat.div_mul_le_self a d)]
  exact congrArg nI (by have := Nat.div_add_mod' a d; omega)
theorem pk_sub_toInt {a b : Nat} (ha : a < 2 ^ 30) (hb : b < 2 ^ 30) : (nI a - nI b).toInt = (a : Int) - b := by
  rw [Int32.toInt_sub, nI_toInt (by omega), nI_toInt (by omega)]
  exact Int.bmod_eq_of_le (by omega) (by omega)
theorem pk_sneg {a b : Nat} (hb : b < 2 ^ 30) (h : a < b) : nI a - nI b < 0 := by
  rw [Int32.lt_iff_toInt_lt, pk_sub_toInt (by omega) hb, show (0 : Int32).toInt = 0 from by decide]
  omega
theorem pk_ix (x : Int32) {n : Nat} (hn : n < 2 ^ 31) : x < 0 ∨ nI n ≤ x ∨ ∃ j : Nat, j < n ∧ x = nI j := by
  by_cases h : x < 0
  · exact Or.inl h
  · obtain ⟨j, hj, rfl⟩ := nI_of h
    by_cases h2 : j < n
    · exact Or.inr (Or.inr ⟨j, h2, rfl⟩)
    · exact Or.inr (Or.inl (nI_le (by omega) hj))
theorem pk_le {x y : Int32} {A B : Prop} (a b : Nat) (f : a ≤ b → A) (g : b < a → B) (hx : x = nI a := by rfl) (hy : y = nI b := by rfl) (ha : a < 2 ^ 31 := by omega) (hb : b < 2 ^ 31 := by omega) : (x ≤ y → A) ∧ (¬ x ≤ y → B) := by
  subst hx hy
  rw [nI_leI ha hb]
  exact ⟨f, fun z => g (by omega)⟩
theorem pk_lt {x y : Int32} {A B : Prop} (a b : Nat) (f : a < b → A) (g : b ≤ a → B) (hx : x = nI a := by rfl) (hy : y = nI b := by rfl) (ha : a < 2 ^ 31 := by omega) (hb : b < 2 ^ 31 := by omega) : (x < y → A) ∧ (¬ x < y → B) := by
  subst hx hy
  rw [nI_ltI ha hb]
  exact ⟨f, fun z => g (by omega)⟩
theorem pk_eq {x y : Int32} {A B : Prop} (a b : Nat) (f : a = b → A) (g : a ≠ b → B) (hx : x = nI a := by rfl) (hy : y = nI b := by rfl) (ha : a < 2 ^ 31 := by omega) (hb : b < 2 ^ 31 := by omega) : (x = y → A) ∧ (¬ x = y → B) := by
  subst hx hy
  rw [nI_eq ha hb]
  exact ⟨f, g⟩
theorem pk_in {x : Int32} (n N : Nat) (h : n < N) (hx : x = nI n := by rfl) (hN : N < 2 ^ 31 := by omega) : vp_in x N := by
  subst hx
  exact vp_in_nI h hN
theorem pk_cl {x : Int32} (n : Nat) (hx : x = nI n := by rfl) (h : n < 2 ^ 31 := by omega) : x.toNatClampNeg = n := by
  subst hx
  exact nI_clamp h
theorem pk_tn {n : Nat} (h : n < 2 ^ 32) : (nI n).toBitVec.toNat = n := Nat.mod_eq_of_lt h
theorem pk_and (x : Int32) {m : Int32} (k : Nat) (hm : m.toBitVec.toNat = 2 ^ k - 1) : x &&& m = nI (x.toBitVec.toNat % 2 ^ k) := by
  apply Int32.toBitVec_inj.mp
  apply BitVec.eq_of_toNat_eq
  rw [Int32.toBitVec_and, BitVec.toNat_and, hm, Nat.and_two_pow_sub_one_eq_mod]
  show _ = (BitVec.ofNat 32 _).toNat
  rw [BitVec.toNat_ofNat]
  exact (Nat.mod_eq_of_lt (Nat.lt_of_le_of_lt (Nat.mod_le _ _) x.toBitVec.isLt)).symm
theorem pk_andN {n : Nat} (h : n < 2 ^ 32) {m : Int32} (k : Nat) (hm : m.toBitVec.toNat = 2 ^ k - 1) : nI n &&& m = nI (n % 2 ^ k) := by
  rw [pk_and _ k hm, pk_tn h]
theorem pk_andE (x : Int32) {m : Int32} (k : Nat) (hm : m.toBitVec.toNat = 2 ^ k - 1) : ∃ j : Nat, j < 2 ^ k ∧ x &&& m = nI j := ⟨_, Nat.mod_lt _ (Nat.two_pow_pos k), pk_and x k hm⟩
theorem pk_andIn (x : Int32) {m : Int32} (k : Nat) (hm : m.toBitVec.toNat = 2 ^ k - 1) (hk : k ≤ 30) : vp_in (x &&& m) (2 ^ k) := by
  obtain ⟨j, hj, e⟩ := pk_andE x k hm
  rw [e]
  exact vp_in_nI hj (Nat.lt_of_le_of_lt (Nat.pow_le_pow_right (by decide) hk) (by decide))
theorem pk_shl (a s : Int32) (k : Nat) (hs : (s.toBitVec.smod 32).toNat = k) : (a <<< s).toBitVec.toNat = a.toBitVec.toNat * 2 ^ k % 2 ^ 32 := by
  show (a.toBitVec <<< (s.toBitVec.smod 32).toNat).toNat = _
  rw [hs, BitVec.toNat_shiftLeft, Nat.shiftLeft_eq]
theorem pk_shlN {n : Nat} (s : Int32) (k : Nat) (hs : (s.toBitVec.smod 32).toNat = k) (h : n * 2 ^ k < 2 ^ 32) : nI n <<< s = nI (n * 2 ^ k) := by
  apply Int32.toBitVec_inj.mp
  apply BitVec.eq_of_toNat_eq
  have hn : n < 2 ^ 32 := Nat.lt_of_le_of_lt (Nat.le_mul_of_pos_right n (Nat.two_pow_pos k)) h
  rw [pk_shl _ _ k hs, pk_tn hn, pk_tn h, Nat.mod_eq_of_lt h]
theorem pk_shr (a s : Int32) (k : Nat) (hs : (s.toBitVec.smod 32).toNat = k) : (a >>> s).toInt = a.toInt >>> k := by
  show (a.toBitVec.sshiftRight (s.toBitVec.smod 32).toNat).toInt = _
  rw [hs, BitVec.toInt_sshiftRight]
  rfl
theorem pk_shrN {n : Nat} (h : n < 2 ^ 31) (s : Int32) (k : Nat) (hs : (s.toBitVec.smod 32).toNat = k) : nI n >>> s = nI (n / 2 ^ k) := by
  apply Int32.toInt_inj.mp
  have h2 : n / 2 ^ k ≤ n := Nat.div_le_self _ _
  rw [pk_shr _ _ k hs, nI_toInt h, nI_toInt (by omega), Int.shiftRight_eq_div_pow]
  rfl
theorem pk_ushr (x s : Int32) (k : Nat) (hs : ((s.toUInt32 &&& Int32.toUInt32 31).toBitVec % 32).toNat = k) : (x.toUInt32 >>> (s.toUInt32 &&& Int32.toUInt32 31)).toInt32.toBitVec.toNat = x.toBitVec.toNat / 2 ^ k := by
  have e : (x.toUInt32 >>> (s.toUInt32 &&& Int32.toUInt32 31)).toInt32.toBitVec = x.toBitVec >>> k := by
    rw [← hs]
    exact UInt32.toBitVec_shiftRight _ _
  rw [e, BitVec.toNat_ushiftRight, Nat.shiftRight_eq_div_pow]
theorem pk_ushrN {n : Nat} (hn : n < 2 ^ 32) (s : Int32) (k : Nat) (hs : ((s.toUInt32 &&& Int32.toUInt32 31).toBitVec % 32).toNat = k) : ((nI n).toUInt32 >>> (s.toUInt32 &&& Int32.toUInt32 31)).toInt32 = nI (n / 2 ^ k) := by
  apply Int32.toBitVec_inj.mp
  apply BitVec.eq_of_toNat_eq
  rw [pk_ushr _ s k hs, pk_tn hn, pk_tn (Nat.lt_of_le_of_lt (Nat.div_le_self _ _) hn)]
end
section
/-! rows on bits, shifts and unsigned numbers, to paste: each family out of a closed proof of our own, whole with what it rests on; each by itself clean at Lean in its own claim (generation 39, form 5). Take a family whole -/
/-! ===== Int32 by its bits: bt x i ===== -/
def bt (x : Int32) (i : Nat) : Bool := x.toBitVec.getLsbD i
theorem b_ext {x y : Int32} (h : ∀ i, i < 32 → bt x i = bt y i) : x = y := Int32.toBitVec_inj.mp (BitVec.eq_of_getLsbD_eq (fun i hi => h i hi))
theorem b_or (x y : Int32) (i : Nat) : bt (x ||| y) i = (bt x i || bt y i) := by unfold bt; rw [Int32.toBitVec_or, BitVec.getLsbD_or]
theorem b_and (x y : Int32) (i : Nat) : bt (x &&& y) i = (bt x i && bt y i) := by unfold bt; rw [Int32.toBitVec_and, BitVec.getLsbD_and]
theorem b_xor (x y : Int32) (i : Nat) : bt (x ^^^ y) i = (bt x i ^^ bt y i) := by unfold bt; rw [Int32.toBitVec_xor, BitVec.getLsbD_xor]
theorem b_big {x : Int32} {i : Nat} (h : 32 ≤ i) : bt x i = false := BitVec.getLsbD_of_ge _ _ h
theorem b_255 (i : Nat) : bt 255 i = decide (i < 8) := by
  rcases Nat.lt_or_ge i 32 with h | h
  · exact (by decide +kernel : ∀ i, i < 32 → bt 255 i = decide (i < 8)) i h
  · rw [b_big h, decide_eq_false (by omega)]
theorem b_65535 (i : Nat) : bt 65535 i = decide (i < 16) := by
  rcases Nat.lt_or_ge i 32 with h | h
  · exact (by decide +kernel : ∀ i, i < 32 → bt 65535 i = decide (i < 16)) i h
  · rw [b_big h, decide_eq_false (by omega)]
theorem b_m1 : ∀ i, i < 32 → bt (-1) i = true := by decide +kernel
theorem b_0 (i : Nat) : bt 0 i = false := BitVec.getLsbD_zero
theorem s_l : ∀ n, n < 32 → ((nI n &&& 31).toBitVec.smod 32).toNat = n := by decide +kernel
theorem s_u : ∀ n, n < 32 → (((nI n).toUInt32 &&& Int32.toUInt32 31).toBitVec % 32).toNat = n := by decide +kernel
theorem b_shl (n : Nat) (hn : n < 32) (x : Int32) {i : Nat} (hi : i < 32) : bt (x <<< (nI n &&& 31)) i = (decide (n ≤ i) && bt x (i - n)) := by
  unfold bt
  rw [Int32.toBitVec_shiftLeft]
  show (x.toBitVec <<< ((nI n &&& 31).toBitVec.smod 32).toNat).getLsbD i = _
  rw [s_l n hn, BitVec.getLsbD_shiftLeft]
  rcases Nat.lt_or_ge i n with h | h
  · simp [h, Nat.not_le.mpr h]
  · simp [hi, h, Nat.not_lt.mpr h]
theorem b_ushr (n : Nat) (hn : n < 32) (x : Int32) (i : Nat) : bt ((x.toUInt32 >>> ((nI n).toUInt32 &&& Int32.toUInt32 31)).toInt32) i = bt x (n + i) := by
  show (x.toUInt32 >>> ((nI n).toUInt32 &&& Int32.toUInt32 31)).toBitVec.getLsbD i = x.toUInt32.toBitVec.getLsbD (n + i)
  rw [UInt32.toBitVec_shiftRight]
  show (x.toUInt32.toBitVec >>> (((nI n).toUInt32 &&& Int32.toUInt32 31).toBitVec % 32).toNat).getLsbD i = _
  rw [s_u n hn, BitVec.getLsbD_ushiftRight]
theorem b_sshr (n : Nat) (hn : n < 32) (x : Int32) {i : Nat} (hi : i < 32) : bt (x >>> (nI n &&& 31)) i = if n + i < 32 then bt x (n + i) else bt x 31 := by
  unfold bt
  rw [Int32.toBitVec_shiftRight]
  show (x.toBitVec.sshiftRight ((nI n &&& 31).toBitVec.smod 32).toNat).getLsbD i = _
  rw [s_l n hn, BitVec.getLsbD_sshiftRight, BitVec.msb_eq_getLsbD_last]
  simp [hi]
theorem b_shl8 (x : Int32) {i : Nat} (hi : i < 32) : bt (x <<< ((8 : Int32) &&& 31)) i = (decide (8 ≤ i) && bt x (i - 8)) := b_shl 8 (by omega) x hi
theorem b_shl16 (x : Int32) {i : Nat} (hi : i < 32) : bt (x <<< ((16 : Int32) &&& 31)) i = (decide (16 ≤ i) && bt x (i - 16)) := b_shl 16 (by omega) x hi
theorem b_shl24 (x : Int32) {i : Nat} (hi : i < 32) : bt (x <<< ((24 : Int32) &&& 31)) i = (decide (24 ≤ i) && bt x (i - 24)) := b_shl 24 (by omega) x hi
theorem b_sshr8 (x : Int32) {i : Nat} (hi : i < 32) : bt (x >>> ((8 : Int32) &&& 31)) i = if 8 + i < 32 then bt x (8 + i) else bt x 31 := b_sshr 8 (by omega) x hi
/-! ===== nI under and, xor, >>>, one bit, 65535 ===== -/
theorem nx_and (a b : Nat) : nI a &&& nI b = nI (a &&& b) := by
  apply Int32.toBitVec_inj.1
  show BitVec.ofNat 32 a &&& BitVec.ofNat 32 b = BitVec.ofNat 32 (a &&& b)
  apply BitVec.eq_of_getLsbD_eq
  intro i hi
  simp [hi]
theorem nx_xor (a b : Nat) : nI a ^^^ nI b = nI (a ^^^ b) := by
  apply Int32.toBitVec_inj.1
  show BitVec.ofNat 32 a ^^^ BitVec.ofNat 32 b = BitVec.ofNat 32 (a ^^^ b)
  apply BitVec.eq_of_getLsbD_eq
  intro i hi
  simp [hi]
/-! ===== Int64 as a set of bits: test, set, clear ===== -/
theorem ts_nf {x : Bool} (h : ¬ x = false) : x = true := by cases x <;> first | rfl | exact absurd rfl h
theorem ts_nt {x : Bool} (h : ¬ x = true) : x = false := by cases x <;> first | rfl | exact absurd rfl h
theorem ts_bit {w : Int64} {s : UInt64} {j : Nat} (hj : j < 64) (hs : s.toNat = j) : ((w.toUInt64 >>> s).toInt64 &&& 1) = 0 ↔ w.toBitVec.getLsbD j = false := by
  have e : (w.toUInt64 >>> s).toInt64.toBitVec = w.toBitVec >>> j := by
    apply BitVec.eq_of_toNat_eq
    show (w.toUInt64 >>> s).toNat = _
    rw [UInt64.toNat_shiftRight, hs, Nat.mod_eq_of_lt hj, BitVec.toNat_ushiftRight]
    rfl
  rw [← Int64.toBitVec_inj, Int64.toBitVec_and, e]
  show w.toBitVec >>> j &&& 1#64 = 0#64 ↔ _
  constructor
  · intro h
    have t := congrArg (fun x => x.getLsbD 0) h
    simpa using t
  · intro h
    apply BitVec.eq_of_getLsbD_eq
    intro i hi
    cases i with
    | zero => simp [h]
    | succ i => simp
theorem ts_or {w m : Int64} {j : Nat} (hj : j < 64) (hm : m.toBitVec = BitVec.twoPow 64 j) : (w ||| m) = w ↔ w.toBitVec.getLsbD j = true := by
  rw [← Int64.toBitVec_inj, Int64.toBitVec_or, hm]
  constructor
  · intro h
    have t := congrArg (fun x => x.getLsbD j) h
    simp only [BitVec.getLsbD_or, BitVec.getLsbD_twoPow] at t
    simpa [hj] using t.symm
  · intro h
    apply BitVec.eq_of_getLsbD_eq
    intro i hi
    rw [BitVec.getLsbD_or, BitVec.getLsbD_twoPow]
    by_cases e : j = i
    · subst e; rw [h, Bool.true_or]
    · simp [e]
theorem ts_and {w m : Int64} {j : Nat} (hj : j < 64) (hm : m.toBitVec = BitVec.twoPow 64 j) : (w &&& (m ^^^ (-1))) = w ↔ w.toBitVec.getLsbD j = false := by
  have ha : (-1 : Int64).toBitVec = BitVec.allOnes 64 := by decide
  rw [← Int64.toBitVec_inj, Int64.toBitVec_and, Int64.toBitVec_xor, hm, ha]
  constructor
  · intro h
    have t := congrArg (fun x => x.getLsbD j) h
    simp only [BitVec.getLsbD_and, BitVec.getLsbD_xor, BitVec.getLsbD_twoPow, BitVec.getLsbD_allOnes] at t
    simpa [hj] using t.symm
  · intro h
    apply BitVec.eq_of_getLsbD_eq
    intro i hi
    rw [BitVec.getLsbD_and, BitVec.getLsbD_xor, BitVec.getLsbD_twoPow, BitVec.getLsbD_allOnes]
    by_cases e : j = i
    · subst e; rw [h, Bool.false_and]
    · simp [e, hi]
/-! ===== lN n to 2^64: shifts, and, or, masks, one bit ===== -/
theorem wb_tb (n : Nat) : (lN n).toBitVec = BitVec.ofNat 64 n := rfl
theorem wb_inj {a b : Int64} (h : a.toBitVec = b.toBitVec) : a = b := Int64.toBitVec_inj.mp h
theorem wb_tn {n : Nat} (h : n < 2 ^ 64) : (lN n).toBitVec.toNat = n := by rw [wb_tb, BitVec.toNat_ofNat, Nat.mod_eq_of_lt h]
theorem wb_of (x : Int64) : ∃ n, n < 2 ^ 64 ∧ x = lN n := ⟨x.toBitVec.toNat, x.toBitVec.isLt, wb_inj (by rw [wb_tb]; simp)⟩
theorem wb_of32 (x : Int32) : ∃ n, n < 2 ^ 32 ∧ x = nI n := ⟨x.toBitVec.toNat, x.toBitVec.isLt, Int32.toBitVec_inj.mp (by show _ = BitVec.ofNat 32 _; simp)⟩
theorem wb_c : ∀ k, k < 64 → ((nI k).toInt64 &&& 63) = lN k := by decide +kernel
theorem wb_cu : ∀ k, k < 64 → ((nI k).toInt64.toUInt64 &&& Int64.toUInt64 63) = UInt64.ofNat k := by decide +kernel
theorem wb_sm : ∀ k, k < 64 → (BitVec.ofNat 64 k).smod 64 = BitVec.ofNat 64 k := by decide +kernel
theorem wb_pw {a b : Nat} (h : a ≤ b) : 2 ^ b = 2 ^ a * 2 ^ (b - a) := by rw [← Nat.pow_add]; congr 1; omega
theorem wb_lt2 {a b : Nat} (h : a < b) : 2 ^ a < 2 ^ b := Nat.pow_lt_pow_right (by decide) h
theorem wb_mod (n : Nat) : lN n = lN (n % 2 ^ 64) := wb_inj (by rw [wb_tb, wb_tb]; apply BitVec.eq_of_toNat_eq; rw [BitVec.toNat_ofNat, BitVec.toNat_ofNat, Nat.mod_mod])
theorem wb_shr {n k : Nat} (hn : n < 2 ^ 64) (hk : k < 64) : ((lN n).toUInt64 >>> ((nI k).toInt64.toUInt64 &&& Int64.toUInt64 63)).toInt64 = lN (n / 2 ^ k) := by
  rw [wb_cu k hk]
  apply wb_inj
  apply BitVec.eq_of_toNat_eq
  show ((lN n).toUInt64 >>> UInt64.ofNat k).toNat = (BitVec.ofNat 64 _).toNat
  have h1 : (UInt64.ofNat k).toNat = k := by
    show (BitVec.ofNat 64 k).toNat = k
    rw [BitVec.toNat_ofNat, Nat.mod_eq_of_lt (by omega)]
  have h2 : (lN n).toUInt64.toNat = n := wb_tn hn
  rw [UInt64.toNat_shiftRight, h1, h2, Nat.mod_eq_of_lt hk, Nat.shiftRight_eq_div_pow, BitVec.toNat_ofNat, Nat.mod_eq_of_lt (Nat.lt_of_le_of_lt (Nat.div_le_self _ _) hn)]
theorem wb_shl (n : Nat) {k : Nat} (hk : k < 64) : lN n <<< ((nI k).toInt64 &&& 63) = lN (n * 2 ^ k) := by
  rw [wb_c k hk]
  apply wb_inj
  rw [Int64.toBitVec_shiftLeft, wb_tb, wb_tb, wb_tb, wb_sm k hk]
  apply BitVec.eq_of_toNat_eq
  rw [BitVec.shiftLeft_eq', BitVec.toNat_shiftLeft, BitVec.toNat_ofNat, BitVec.toNat_ofNat, BitVec.toNat_ofNat, Nat.mod_eq_of_lt (show k < 2 ^ 64 by omega), Nat.shiftLeft_eq, Nat.mul_mod, Nat.mod_mod, ← Nat.mul_mod]
theorem wb_and {a b : Nat} (ha : a < 2 ^ 64) (hb : b < 2 ^ 64) : lN a &&& lN b = lN (a &&& b) := by
  apply wb_inj
  rw [Int64.toBitVec_and, wb_tb, wb_tb, wb_tb]
  apply BitVec.eq_of_toNat_eq
  rw [BitVec.toNat_and, BitVec.toNat_ofNat, BitVec.toNat_ofNat, BitVec.toNat_ofNat, Nat.mod_eq_of_lt ha, Nat.mod_eq_of_lt hb, Nat.mod_eq_of_lt (Nat.and_lt_two_pow _ hb)]
theorem wb_or {a b : Nat} (ha : a < 2 ^ 64) (hb : b < 2 ^ 64) : lN a ||| lN b = lN (a ||| b) := by
  apply wb_inj
  rw [Int64.toBitVec_or, wb_tb, wb_tb, wb_tb]
  apply BitVec.eq_of_toNat_eq
  rw [BitVec.toNat_or, BitVec.toNat_ofNat, BitVec.toNat_ofNat, BitVec.toNat_ofNat, Nat.mod_eq_of_lt ha, Nat.mod_eq_of_lt hb, Nat.mod_eq_of_lt (Nat.or_lt_two_pow ha hb)]
theorem wb_mask {n k : Nat} (hn : n < 2 ^ 64) (hk : k < 64) : lN n &&& lN (2 ^ k - 1) = lN (n % 2 ^ k) := by
  rw [wb_and hn (by have := wb_lt2 hk; omega), Nat.and_two_pow_sub_one_eq_mod]
end
section
/-! da_: bits of an Int64, counts -/
def da_b (x : Int64) (i : Nat) : Bool := x.toBitVec.getLsbD i
theorem da_ext {x y : Int64} (h : ∀ i, i < 64 → da_b x i = da_b y i) : x = y := Int64.toBitVec_inj.mp (BitVec.eq_of_getLsbD_eq (fun i hi => h i hi))
theorem da_exi {x y : Int64} (h : ∀ i, i < 64 → (da_b x i = true ↔ da_b y i = true)) : x = y := da_ext (fun i hi => Bool.eq_iff_iff.mpr (h i hi))
theorem da_big {x : Int64} {i : Nat} (h : 64 ≤ i) : da_b x i = false := BitVec.getLsbD_of_ge _ _ h
theorem da_lt {x : Int64} {i : Nat} (h : da_b x i = true) : i < 64 := by
  rcases Nat.lt_or_ge i 64 with z | z
  · exact z
  · rw [da_big z] at h; exact absurd h (by decide)
theorem da_or (x y : Int64) (i : Nat) : da_b (x ||| y) i = (da_b x i || da_b y i) := by unfold da_b; rw [Int64.toBitVec_or, BitVec.getLsbD_or]
theorem da_and (x y : Int64) (i : Nat) : da_b (x &&& y) i = (da_b x i && da_b y i) := by unfold da_b; rw [Int64.toBitVec_and, BitVec.getLsbD_and]
theorem da_xor (x y : Int64) (i : Nat) : da_b (x ^^^ y) i = (da_b x i ^^ da_b y i) := by unfold da_b; rw [Int64.toBitVec_xor, BitVec.getLsbD_xor]
theorem da_0 (i : Nat) : da_b 0 i = false := BitVec.getLsbD_zero
theorem da_m1 : ∀ i, i < 64 → da_b (-1) i = true := by decide +kernel
theorem da_not (x : Int64) {i : Nat} (hi : i < 64) : da_b (x ^^^ (-1)) i = !da_b x i := by rw [da_xor, da_m1 i hi, Bool.xor_true]
theorem da_andn (x y : Int64) (i : Nat) : da_b (x &&& (y ^^^ (-1))) i = (da_b x i && !da_b y i) := by
  rcases Nat.lt_or_ge i 64 with h | h
  · rw [da_and, da_not y h]
  · rw [da_big h, da_big h, Bool.false_and]
theorem da_tp : ∀ k, k < 64 → ((1 : Int64) <<< ((nI k).toInt64 &&& 63)).toBitVec = BitVec.twoPow 64 k := by decide +kernel
theorem da_one {k : Nat} (hk : k < 64) (i : Nat) : da_b ((1 : Int64) <<< ((nI k).toInt64 &&& 63)) i = decide (i = k) := by
  unfold da_b
  rw [da_tp k hk, BitVec.getLsbD_twoPow, decide_eq_true hk, Bool.true_and]
  exact decide_eq_decide.mpr eq_comm
theorem da_low' : ∀ k, k < 64 → ∀ i, i < 64 → da_b (((1 : Int64) <<< ((nI k).toInt64 &&& 63)) - 1) i = decide (i < k) := by decide +kernel
theorem da_low {k : Nat} (hk : k < 64) (i : Nat) : da_b (((1 : Int64) <<< ((nI k).toInt64 &&& 63)) - 1) i = decide (i < k) := by
  rcases Nat.lt_or_ge i 64 with h | h
  · exact da_low' k hk i h
  · rw [da_big h, decide_eq_false (by omega)]
theorem da_rd' : ∀ r, r < 8 → ∀ i, i < 64 → da_b ((255 : Int64) <<< ((nI (8 * r)).toInt64 &&& 63)) i = decide (8 * r ≤ i ∧ i < 8 * r + 8) := by decide +kernel
theorem da_rd {r : Nat} (hr : r < 8) (i : Nat) : da_b ((255 : Int64) <<< ((nI (8 * r)).toInt64 &&& 63)) i = decide (8 * r ≤ i ∧ i < 8 * r + 8) := by
  rcases Nat.lt_or_ge i 64 with h | h
  · exact da_rd' r hr i h
  · rw [da_big h, decide_eq_false (by omega)]
theorem da_un {k : Nat} (hk : k < 64) : ((nI k).toInt64.toUInt64 &&& Int64.toUInt64 63).toNat = k := by
  rw [wb_cu k hk]
  show (BitVec.ofNat 64 k).toNat = k
  rw [BitVec.toNat_ofNat, Nat.mod_eq_of_lt (by omega)]
theorem da_shr {k : Nat} (hk : k < 64) (x : Int64) (i : Nat) : da_b ((x.toUInt64 >>> ((nI k).toInt64.toUInt64 &&& Int64.toUInt64 63)).toInt64) i = da_b x (k + i) := by
  have e : (x.toUInt64 >>> ((nI k).toInt64.toUInt64 &&& Int64.toUInt64 63)).toInt64.toBitVec = x.toBitVec >>> k := by
    apply BitVec.eq_of_toNat_eq
    show (x.toUInt64 >>> ((nI k).toInt64.toUInt64 &&& Int64.toUInt64 63)).toNat = _
    rw [UInt64.toNat_shiftRight, da_un hk, Nat.mod_eq_of_lt hk, BitVec.toNat_ushiftRight]
    rfl
  unfold da_b
  rw [e, BitVec.getLsbD_ushiftRight]
theorem da_has {k : Nat} (hk : k < 64) (x : Int64) : (((x.toUInt64 >>> ((nI k).toInt64.toUInt64 &&& Int64.toUInt64 63)).toInt64) &&& 1) = 0 ↔ da_b x k = false := ts_bit hk (da_un hk)
theorem da_shl {k : Nat} (hk : k < 64) (x : Int64) {i : Nat} (hi : i < 64) : da_b (x <<< ((nI k).toInt64 &&& 63)) i = (decide (k ≤ i) && da_b x (i - k)) := by
  unfold da_b
  rw [wb_c k hk, Int64.toBitVec_shiftLeft, wb_tb, wb_sm k hk, BitVec.shiftLeft_eq', BitVec.getLsbD_shiftLeft, BitVec.toNat_ofNat, Nat.mod_eq_of_lt (show k < 2 ^ 64 by omega)]
  rcases Nat.lt_or_ge i k with h | h
  · simp [h, Nat.not_le.mpr h]
  · simp [hi, h, Nat.not_lt.mpr h]
theorem da_i64 (x : Int32) {i : Nat} (hi : i < 32) : da_b x.toInt64 i = bt x i := by
  unfold da_b bt
  rw [Int32.toBitVec_toInt64, BitVec.getLsbD_signExtend, if_pos hi, decide_eq_true (by omega), Bool.true_and]
def da_S4 (x : Int32) : Prop := ∀ k, 4 ≤ k → bt x k = false
theorem da_i4 {x : Int32} (h : da_S4 x) (i : Nat) : da_b x.toInt64 i = bt x i := by
  rcases Nat.lt_or_ge i 32 with z | z
  · exact da_i64 x z
  · have h31 : x.toBitVec.msb = false := by
      rw [BitVec.msb_eq_getLsbD_last]
      exact h 31 (by omega)
    rw [b_big z]
    unfold da_b
    rw [Int32.toBitVec_toInt64, BitVec.getLsbD_signExtend, if_neg (by omega), h31, Bool.and_false]
theorem da_ex0 {x : Int64} : x = 0 ↔ ∀ i, i < 64 → da_b x i = false := by
  constructor
  · intro h i _; rw [h]; exact da_0 i
  · intro h; exact da_ext (fun i hi => by rw [h i hi, da_0])
theorem da_sub {a b : Int64} : (a &&& (b ^^^ (-1))) = 0 ↔ ∀ i, da_b a i = true → da_b b i = true := by
  rw [da_ex0]
  constructor
  · intro h i hi
    have := h i (da_lt hi)
    rw [da_andn, hi, Bool.true_and, Bool.not_eq_false'] at this
    exact this
  · intro h i _
    rw [da_andn]
    cases e : da_b a i
    · rfl
    · rw [h i e]; rfl
theorem da_z32 {x : Int32} : x = 0 ↔ ∀ k, bt x k = false := by
  constructor
  · intro h k; rw [h]; exact b_0 k
  · intro h; exact b_ext (fun i hi => by rw [h i, b_0])
theorem da_t1 : ∀ a, a < 32 → ∀ k, k < 32 → bt ((1 : Int32) <<< (nI a &&& 31)) k = decide (k = a) := by decide +kernel
theorem da_o32 {a : Nat} (ha : a < 32) (k : Nat) : bt ((1 : Int32) <<< (nI a &&& 31)) k = decide (k = a) := by
  rcases Nat.lt_or_ge k 32 with h | h
  · exact da_t1 a ha k h
  · rw [b_big h, decide_eq_false (by omega)]
/-- counts -/
def da_n (f : Nat → Bool) : Nat → Nat
  | 0 => 0
  | n + 1 => if f n = true then da_n f n + 1 else da_n f n
theorem da_nt {f : Nat → Bool} {n : Nat} (h : f n = true) : da_n f (n + 1) = da_n f n + 1 := if_pos h
theorem da_nf {f : Nat → Bool} {n : Nat} (h : f n = false) : da_n f (n + 1) = da_n f n := if_neg (by rw [h]; decide)
theorem da_n_le (f : Nat → Bool) : ∀ n, da_n f n ≤ n
  | 0 => Nat.le_refl 0
  | n + 1 => by
    have := da_n_le f n
    cases h : f n
    · rw [da_nf h]; omega
    · rw [da_nt h]; omega
theorem da_n_mono {f g : Nat → Bool} : ∀ n, (∀ i, i < n → f i = true → g i = true) → da_n f n ≤ da_n g n
  | 0, _ => Nat.le_refl 0
  | n + 1, h => by
    have := da_n_mono n (fun i hi => h i (by omega))
    cases e : f n
    · rw [da_nf e]
      cases e2 : g n
      · rw [da_nf e2]; exact this
      · rw [da_nt e2]; omega
    · rw [da_nt e, da_nt (h n (by omega) e)]; omega
theorem da_n_congr {f g : Nat → Bool} (n : Nat) (h : ∀ i, i < n → f i = g i) : da_n f n = da_n g n :=
  Nat.le_antisymm (da_n_mono n (fun i hi e => by rw [← h i hi]; exact e)) (da_n_mono n (fun i hi e => by rw [h i hi]; exact e))
theorem da_n_zero {f : Nat → Bool} : ∀ n, (∀ i, i < n → f i = false) → da_n f n = 0
  | 0, _ => rfl
  | n + 1, h => by rw [da_nf (h n (by omega)), da_n_zero n (fun i hi => h i (by omega))]
theorem da_n_add (f : Nat → Bool) (a : Nat) : ∀ b, da_n f (a + b) = da_n f a + da_n (fun k => f (a + k)) b
  | 0 => rfl
  | b + 1 => by
    have ih := da_n_add f a b
    rw [← Nat.add_assoc]
    cases e : f (a + b)
    · rw [da_nf e, da_nf (f := fun k => f (a + k)) e, ih]
    · rw [da_nt e, da_nt (f := fun k => f (a + k)) e, ih]; omega
theorem da_n_cut {f : Nat → Bool} {a n : Nat} (h : ∀ i, a ≤ i → f i = false) (ha : a ≤ n) : da_n f n = da_n f a := by
  obtain ⟨b, rfl⟩ : ∃ b, n = a + b := ⟨n - a, by omega⟩
  rw [da_n_add, da_n_zero (f := fun k => f (a + k)) b (fun i _ => h (a + i) (by omega)), Nat.add_zero]
theorem da_n_up {f : Nat → Bool} {i n : Nat} (h : i ≤ n) : da_n f i ≤ da_n f n := by
  obtain ⟨b, rfl⟩ : ∃ b, n = i + b := ⟨n - i, by omega⟩
  rw [da_n_add]; omega
theorem da_n_lt {f : Nat → Bool} {i n : Nat} (hi : i < n) (h : f i = true) : da_n f i < da_n f n := by
  have := da_n_up (f := f) (show i + 1 ≤ n from hi)
  rw [da_nt h] at this; omega
theorem da_n_or (f g : Nat → Bool) : ∀ n, da_n (fun i => f i || g i) n = da_n f n + da_n (fun i => g i && !f i) n
  | 0 => rfl
  | n + 1 => by
    have ih := da_n_or f g n
    have d1 : ∀ h : Nat → Bool, da_n h (n + 1) = if h n = true then da_n h n + 1 else da_n h n := fun _ => rfl
    rw [d1, d1, d1, ih]
    cases f n <;> cases g n <;> simp <;> omega
theorem da_n_and (f g : Nat → Bool) : ∀ n, da_n g n = da_n (fun i => g i && f i) n + da_n (fun i => g i && !f i) n
  | 0 => rfl
  | n + 1 => by
    have ih := da_n_and f g n
    have d1 : ∀ h : Nat → Bool, da_n h (n + 1) = if h n = true then da_n h n + 1 else da_n h n := fun _ => rfl
    rw [d1, d1, d1]
    cases f n <;> cases g n <;> simp <;> omega
theorem da_n_win (f : Nat → Bool) {b : Nat} (hb : b + 8 ≤ 64) : da_n (fun i => f i && decide (b ≤ i ∧ i < b + 8)) 64 = da_n (fun k => f (b + k)) 8 := by
  have e : (64 : Nat) = (b + 8) + (56 - b) := by omega
  rw [e, da_n_add, da_n_add, da_n_zero b, da_n_zero (56 - b), Nat.add_zero, Nat.zero_add]
  · apply da_n_congr
    intro i hi
    rw [decide_eq_true (by omega), Bool.and_true]
  · intro i _; rw [decide_eq_false (by omega), Bool.and_false]
  · intro i _; rw [decide_eq_false (by omega), Bool.and_false]
theorem da_n_some {f : Nat → Bool} : ∀ n, 0 < da_n f n → ∃ i, i < n ∧ f i = true
  | 0, h => absurd (show 0 < 0 from h) (by decide)
  | n + 1, h => by
    cases e : f n
    · rw [da_nf e] at h
      obtain ⟨i, hi, z⟩ := da_n_some n h
      exact ⟨i, by omega, z⟩
    · exact ⟨n, by omega, e⟩
/-- all but one place -/
theorem da_n_but (f : Nat → Bool) (a : Nat) (n : Nat) : da_n f n ≤ da_n (fun i => f i && decide (i ≠ a)) n + 1 := by
  induction n with
  | zero => exact Nat.zero_le _
  | succ n ih =>
    have d1 : ∀ h : Nat → Bool, da_n h (n + 1) = if h n = true then da_n h n + 1 else da_n h n := fun _ => rfl
    by_cases e : n = a
    · subst e
      have z : da_n (fun i => f i && decide (i ≠ n)) n = da_n f n := da_n_congr n (fun i hi => by rw [decide_eq_true (by omega), Bool.and_true])
      rw [d1, d1, z]
      cases f n <;> simp
    · have z : (f n && decide (n ≠ a)) = f n := by rw [decide_eq_true e, Bool.and_true]
      rw [d1, d1]
      show (if f n = true then _ else _) ≤ (if (f n && decide (n ≠ a)) = true then _ else _) + 1
      rw [z]
      split <;> omega
theorem da_pick1 {f : Nat → Bool} (a n : Nat) (h : 2 ≤ da_n f n) : ∃ i, i < n ∧ i ≠ a ∧ f i = true := by
  have h1 := da_n_but f a n
  obtain ⟨i, hi, z⟩ := da_n_some (f := fun i => f i && decide (i ≠ a)) n (by omega)
  simp only [Bool.and_eq_true, decide_eq_true_eq] at z
  exact ⟨i, hi, z.2, z.1⟩
theorem da_pick2 {f : Nat → Bool} (a b n : Nat) (h : 3 ≤ da_n f n) : ∃ i, i < n ∧ i ≠ a ∧ i ≠ b ∧ f i = true := by
  have h1 := da_n_but f a n
  obtain ⟨i, hi, zb, z⟩ := da_pick1 (f := fun i => f i && decide (i ≠ a)) b n (by omega)
  simp only [Bool.and_eq_true, decide_eq_true_eq] at z
  exact ⟨i, hi, z.2, zb, z.1⟩
/-- two sets of 3 in 4 share two: one beside a -/
theorem da_meet {f g : Nat → Bool} (a : Nat) (hf : 3 ≤ da_n f 4) (hg : 3 ≤ da_n g 4) : ∃ v, v < 4 ∧ v ≠ a ∧ f v = true ∧ g v = true := by
  have h1 := da_n_or f g 4
  have h2 := da_n_le (fun i => f i || g i) 4
  have h3 := da_n_and f g 4
  obtain ⟨v, hv, ha, z⟩ := da_pick1 (f := fun i => g i && f i) a 4 (by omega)
  simp only [Bool.and_eq_true] at z
  exact ⟨v, hv, ha, z.2, z.1⟩
/-- 3 and 2 among 8 places of which no pair is both taken -/
theorem da_quo {f g c : Nat → Bool} (hf : ∀ k, k < 8 → f k = true → c k = true) (hg : ∀ k, k < 8 → g k = true → c k = true)
    (hc : ∀ a, a < 4 → c (2 * a) = true → c (2 * a + 1) = true → False) (h3 : 3 ≤ da_n f 8) (h2 : 2 ≤ da_n g 8) : ∃ k, k < 8 ∧ f k = true ∧ g k = true := by
  have c4 : da_n c 8 ≤ 4 := by
    have p : ∀ a, a < 4 → da_n c (2 * a + 2) ≤ da_n c (2 * a) + 1 := by
      intro a ha
      have d1 : ∀ m, da_n c (m + 1) = if c m = true then da_n c m + 1 else da_n c m := fun _ => rfl
      rw [d1, d1]
      cases e : c (2 * a)
      · cases e2 : c (2 * a + 1) <;> simp
      · cases e2 : c (2 * a + 1)
        · simp
        · exact absurd e2 (by intro z; exact hc a ha e z)
    have p0 : da_n c 2 ≤ da_n c 0 + 1 := p 0 (by omega)
    have p1 : da_n c 4 ≤ da_n c 2 + 1 := p 1 (by omega)
    have p2 : da_n c 6 ≤ da_n c 4 + 1 := p 2 (by omega)
    have p3 : da_n c 8 ≤ da_n c 6 + 1 := p 3 (by omega)
    have z : da_n c 0 = 0 := rfl
    omega
  have h1 := da_n_or f g 8
  have h4 : da_n (fun i => f i || g i) 8 ≤ da_n c 8 := da_n_mono 8 (fun i hi e => by
    rcases Bool.or_eq_true_iff.mp e with z | z
    · exact hf i hi z
    · exact hg i hi z)
  have h5 := da_n_and f g 8
  obtain ⟨k, hk, z⟩ := da_n_some (f := fun i => g i && f i) 8 (by omega)
  simp only [Bool.and_eq_true] at z
  exact ⟨k, hk, z.2, z.1⟩
theorem da_x1 : ∀ i, i < 64 → (i ^^^ 1) < 64 ∧ (i ^^^ 1) / 2 = i / 2 ∧ (i ^^^ 1) % 2 = 1 - i % 2 ∧ (i ^^^ 1) ^^^ 1 = i := by decide +kernel
theorem da_xe : ∀ i, i < 64 → i % 2 = 0 → i ^^^ 1 = i + 1 := by decide +kernel
end
section
/-! dg_: the graph's invariant -/
/-- vertex i has edges to certified vertices of older rounds alone, and three strong ones -/
def dg_Acc (ce : Int64) (es : Nat → Int64) (i : Nat) : Prop :=
  (∀ j, da_b (es i) j = true → j / 8 < i / 8 ∧ da_b ce j = true) ∧ (8 ≤ i → 3 ≤ da_n (fun k => da_b (es i) (8 * (i / 8) - 8 + k)) 8)
def dg_Pa (es pa : Nat → Int64) (i : Nat) : Prop := ∀ j, da_b (pa i) j = true ↔ (j = i ∨ ∃ k, da_b (es i) k = true ∧ da_b (pa k) j = true)
def dg_Sp (es sp : Nat → Int64) (i : Nat) : Prop := ∀ j, da_b (sp i) j = true ↔ (j = i ∨ ∃ k, da_b (es i) k = true ∧ k / 8 + 1 = i / 8 ∧ da_b (sp k) j = true)
def dg_D1 (nf : Nat) (ex ce : Int64) (es : Nat → Int64) (sg : Nat → Int32) (pa sp : Nat → Int64) (i : Nat) : Prop :=
  da_S4 (sg i) ∧ (da_b ex i = true ↔ sg i ≠ 0) ∧ (da_b ce i = true ↔ 3 ≤ da_n (bt (sg i)) 4) ∧
  (da_b ex i = true → bt (sg i) (i / 2 % 4) = true) ∧ (da_b ex i = true → i / 2 % 4 ≠ nf → i % 2 = 0) ∧
  (∀ v, v < 4 → v ≠ nf → bt (sg i) v = true → bt (sg (i ^^^ 1)) v = true → False) ∧
  (∀ v, v < 4 → v ≠ nf → v ≠ i / 2 % 4 → bt (sg i) v = true → dg_Acc ce es i) ∧
  (da_b ce i = false → pa i = 0) ∧ (da_b ce i = true → dg_Pa es pa i ∧ dg_Sp es sp i)
def dg_D (nf : Nat) (ex ce : Int64) (es : Nat → Int64) (sg : Nat → Int32) (pa sp : Nat → Int64) : Prop := ∀ i, i < 64 → dg_D1 nf ex ce es sg pa sp i
section DG1
variable {nf : Nat} {ex ce : Int64} {es : Nat → Int64} {sg : Nat → Int32} {pa sp : Nat → Int64}
theorem dg_s4 (D : dg_D nf ex ce es sg pa sp) {i : Nat} (hi : i < 64) : da_S4 (sg i) := (D i hi).1
theorem dg_ex (D : dg_D nf ex ce es sg pa sp) {i : Nat} (hi : i < 64) : da_b ex i = true ↔ sg i ≠ 0 := (D i hi).2.1
theorem dg_ce (D : dg_D nf ex ce es sg pa sp) {i : Nat} (hi : i < 64) : da_b ce i = true ↔ 3 ≤ da_n (bt (sg i)) 4 := (D i hi).2.2.1
theorem dg_au (D : dg_D nf ex ce es sg pa sp) {i : Nat} (hi : i < 64) : da_b ex i = true → bt (sg i) (i / 2 % 4) = true := (D i hi).2.2.2.1
theorem dg_ev (D : dg_D nf ex ce es sg pa sp) {i : Nat} (hi : i < 64) : da_b ex i = true → i / 2 % 4 ≠ nf → i % 2 = 0 := (D i hi).2.2.2.2.1
theorem dg_pt (D : dg_D nf ex ce es sg pa sp) {i : Nat} (hi : i < 64) : ∀ v, v < 4 → v ≠ nf → bt (sg i) v = true → bt (sg (i ^^^ 1)) v = true → False := (D i hi).2.2.2.2.2.1
theorem dg_ac (D : dg_D nf ex ce es sg pa sp) {i : Nat} (hi : i < 64) : ∀ v, v < 4 → v ≠ nf → v ≠ i / 2 % 4 → bt (sg i) v = true → dg_Acc ce es i := (D i hi).2.2.2.2.2.2.1
theorem dg_p0 (D : dg_D nf ex ce es sg pa sp) {i : Nat} (hi : i < 64) : da_b ce i = false → pa i = 0 := (D i hi).2.2.2.2.2.2.2.1
theorem dg_ps (D : dg_D nf ex ce es sg pa sp) {i : Nat} (h : da_b ce i = true) : dg_Pa es pa i ∧ dg_Sp es sp i := (D i (da_lt h)).2.2.2.2.2.2.2.2 h
theorem dg_acc (D : dg_D nf ex ce es sg pa sp) {i : Nat} (h : da_b ce i = true) : dg_Acc ce es i := by
  obtain ⟨v, hv, h1, h2, h3⟩ := da_pick2 nf (i / 2 % 4) 4 ((dg_ce D (da_lt h)).mp h)
  exact dg_ac D (da_lt h) v hv h1 h2 h3
theorem dg_uni (D : dg_D nf ex ce es sg pa sp) {i : Nat} (h : da_b ce i = true) (h2 : da_b ce (i ^^^ 1) = true) : False := by
  obtain ⟨v, hv, h1, h3, h4⟩ := da_meet nf ((dg_ce D (da_lt h)).mp h) ((dg_ce D (da_lt h2)).mp h2)
  exact dg_pt D (da_lt h) v hv h1 h3 h4
theorem dg_un2 (D : dg_D nf ex ce es sg pa sp) {i : Nat} (he : i % 2 = 0) (h : da_b ce i = true) (h2 : da_b ce (i + 1) = true) : False := by
  have := da_xe i (da_lt h) he
  exact dg_uni D h (by rw [this]; exact h2)
theorem dg_cx (D : dg_D nf ex ce es sg pa sp) {i : Nat} (h : da_b ce i = true) : da_b ex i = true := by
  rw [dg_ex D (da_lt h)]
  intro e
  have h3 := (dg_ce D (da_lt h)).mp h
  rw [e, da_n_zero 4 (fun k _ => b_0 k)] at h3
  omega
theorem dg_nc (D : dg_D nf ex ce es sg pa sp) {i : Nat} (h : da_b ex i = false) : da_b ce i = false := by
  cases e : da_b ce i
  · rfl
  · rw [dg_cx D e] at h; exact absurd h (by decide)
theorem dg_n0 (D : dg_D nf ex ce es sg pa sp) {i : Nat} (hi : i < 64) (h : da_b ex i = false) : sg i = 0 := by
  apply Classical.byContradiction
  intro z
  rw [(dg_ex D hi).mpr z] at h; exact absurd h (by decide)
/-- the past of a certified vertex: certified, not above it -/
theorem dg_pcl (D : dg_D nf ex ce es sg pa sp) : ∀ i, da_b ce i = true → ∀ j, da_b (pa i) j = true → da_b ce j = true ∧ j ≤ i := by
  intro i
  induction i using Nat.strongRecOn with
  | _ i ih =>
    intro h j hj
    rcases ((dg_ps D h).1 j).mp hj with e | ⟨k, hk, hkj⟩
    · subst e; exact ⟨h, Nat.le_refl _⟩
    · have a := (dg_acc D h).1 k hk
      have z := ih k (by omega) a.2 j hkj
      exact ⟨z.1, by omega⟩
theorem dg_scl (D : dg_D nf ex ce es sg pa sp) : ∀ i, da_b ce i = true → ∀ j, da_b (sp i) j = true → da_b ce j = true ∧ j ≤ i := by
  intro i
  induction i using Nat.strongRecOn with
  | _ i ih =>
    intro h j hj
    rcases ((dg_ps D h).2 j).mp hj with e | ⟨k, hk, _, hkj⟩
    · subst e; exact ⟨h, Nat.le_refl _⟩
    · have a := (dg_acc D h).1 k hk
      have z := ih k (by omega) a.2 j hkj
      exact ⟨z.1, by omega⟩
/-- a leader with two certified supporters is in the strong past of every certified vertex of a later wave -/
theorem dg_safe (D : dg_D nf ex ce es sg pa sp) {a : Int64} {x t : Nat} (ha : ∀ i, da_b a i = true → da_b ce i = true) (hx : da_b ce x = true) (hr : x / 8 + 1 = 2 * t - 1) (ht : 1 ≤ t)
    (h2 : 2 ≤ da_n (fun k => da_b a (8 * (2 * t - 1) + k) && da_b (es (8 * (2 * t - 1) + k)) x) 8) : ∀ y, da_b ce y = true → 2 * t ≤ y / 8 → da_b (sp y) x = true := by
  intro y
  induction y using Nat.strongRecOn with
  | _ y ih =>
    intro hy hw
    have A := dg_acc D hy
    have h3 := A.2 (by omega)
    rw [(dg_ps D hy).2 x]
    right
    by_cases e : y / 8 = 2 * t
    · have eb : 8 * (y / 8) - 8 = 8 * (2 * t - 1) := by omega
      rw [eb] at h3
      obtain ⟨k, hk, z1, z2⟩ := da_quo (f := fun k => da_b (es y) (8 * (2 * t - 1) + k)) (g := fun k => da_b a (8 * (2 * t - 1) + k) && da_b (es (8 * (2 * t - 1) + k)) x) (c := fun k => da_b ce (8 * (2 * t - 1) + k))
        (fun k _ h => (A.1 _ h).2) (fun k _ h => ha _ (Bool.and_eq_true_iff.mp h).1)
        (fun b _ h1 h2 => dg_un2 D (i := 8 * (2 * t - 1) + 2 * b) (by omega) h1 (by rw [Nat.add_assoc]; exact h2)) h3 h2
      have z2 := Bool.and_eq_true_iff.mp z2
      refine ⟨8 * (2 * t - 1) + k, z1, by omega, ?_⟩
      rw [(dg_ps D (A.1 _ z1).2).2 x]
      right
      exact ⟨x, z2.2, by omega, ((dg_ps D hx).2 x).mpr (Or.inl rfl)⟩
    · obtain ⟨k, hk, z⟩ := da_n_some (f := fun k => da_b (es y) (8 * (y / 8) - 8 + k)) 8 (by omega)
      have B := A.1 _ z
      exact ⟨_, z, by omega, ih _ (by omega) B.2 (by omega)⟩
end DG1
/-! a new vertex -/
theorem dg_make {nf : Nat} {ex ce : Int64} {es : Nat → Int64} {sg : Nat → Int32} {pa sp : Nat → Int64} (D : dg_D nf ex ce es sg pa sp) {i a : Nat} (e : Int64) (hi : i < 64) (hn : da_b ex i = false) (ha : i / 2 % 4 = a) (hev : a ≠ nf → i % 2 = 0) :
    dg_D nf (ex ||| ((1 : Int64) <<< ((nI i).toInt64 &&& 63))) ce (vp_updL es i e) (upd sg i ((1 : Int32) <<< (nI a &&& 31))) pa sp := by
  have a4 : a < 4 := by omega
  have nce := dg_nc D hn
  have ob : ∀ k, bt ((1 : Int32) <<< (nI a &&& 31)) k = decide (k = a) := da_o32 (by omega)
  have X1 := da_x1 i hi
  -- the partner of a new honest vertex is not there
  have part : a ≠ nf → sg (i ^^^ 1) = 0 := by
    intro hne
    have ei := hev hne
    apply dg_n0 D X1.1
    cases e : da_b ex (i ^^^ 1)
    · rfl
    · have := dg_ev D X1.1 e (by omega)
      omega
  intro j hj
  by_cases ej : j = i
  · subst ej
    have es' : upd sg j ((1 : Int32) <<< (nI a &&& 31)) j = (1 : Int32) <<< (nI a &&& 31) := pk_us
    have hne : j ^^^ 1 ≠ j := by omega
    have ep : upd sg j ((1 : Int32) <<< (nI a &&& 31)) (j ^^^ 1) = sg (j ^^^ 1) := pk_un hne
    unfold dg_D1
    rw [es', ep]
    have x1 : da_b (ex ||| ((1 : Int64) <<< ((nI j).toInt64 &&& 63))) j = true := by rw [da_or, da_one hj, decide_eq_true rfl, Bool.or_true]
    have sn : (1 : Int32) <<< (nI a &&& 31) ≠ 0 := by
      intro z
      have := ob a
      rw [z, b_0, decide_eq_true rfl] at this
      exact absurd this (by decide)
    have c1 : da_n (bt ((1 : Int32) <<< (nI a &&& 31))) 4 ≤ 1 := by
      have h1 := da_n_but (bt ((1 : Int32) <<< (nI a &&& 31))) a 4
      have h2 : da_n (fun i => bt ((1 : Int32) <<< (nI a &&& 31)) i && decide (i ≠ a)) 4 = 0 := da_n_zero 4 (fun k _ => by
        rw [ob]
        by_cases z : k = a <;> simp [z])
      omega
    refine ⟨fun k hk => by rw [ob, decide_eq_false (by omega)], ⟨fun _ => sn, fun _ => x1⟩, ⟨fun z => ?_, fun z => ?_⟩, fun _ => by rw [ob, decide_eq_true ha], fun _ h => hev (by omega), ?_, ?_, fun z => dg_p0 D hj z, fun z => ?_⟩
    · rw [nce] at z; exact absurd z (by decide)
    · omega
    · intro v hv h1 h2 h3
      rw [ob] at h2
      have : v = a := of_decide_eq_true h2
      subst this
      rw [part h1, b_0] at h3
      exact absurd h3 (by decide)
    · intro v hv h1 h2 h3
      rw [ob] at h3
      have : v = a := of_decide_eq_true h3
      omega
    · rw [nce] at z; exact absurd z (by decide)
  · have es' : upd sg i ((1 : Int32) <<< (nI a &&& 31)) j = sg j := pk_un ej
    have ee : vp_updL es i e j = es j := pk_uLn ej
    have x1 : da_b (ex ||| ((1 : Int64) <<< ((nI i).toInt64 &&& 63))) j = da_b ex j := by rw [da_or, da_one hi, decide_eq_false ej, Bool.or_false]
    unfold dg_D1 dg_Acc dg_Pa dg_Sp
    rw [es', ee, x1]
    have O := D j hj
    refine ⟨O.1, O.2.1, O.2.2.1, O.2.2.2.1, O.2.2.2.2.1, ?_, O.2.2.2.2.2.2.1, O.2.2.2.2.2.2.2.1, O.2.2.2.2.2.2.2.2⟩
    intro v hv h1 h2 h3
    by_cases ep : j ^^^ 1 = i
    · rw [ep, pk_us, ob] at h3
      have : v = a := of_decide_eq_true h3
      subst this
      have : i ^^^ 1 = j := by rw [← ep]; exact (da_x1 j hj).2.2.2
      have p0 := part h1
      rw [this] at p0
      rw [p0, b_0] at h2
      exact absurd h2 (by decide)
    · rw [pk_un ep] at h3
      exact O.2.2.2.2.2.1 v hv h1 h2 h3
theorem dg_AccM {ce ce' : Int64} {es : Nat → Int64} {i : Nat} (hm : ∀ j, da_b ce j = true → da_b ce' j = true) (h : dg_Acc ce es i) : dg_Acc ce' es i := ⟨fun j hj => ⟨(h.1 j hj).1, hm j (h.1 j hj).2⟩, h.2⟩
/-! a signature, and a vertex certified -/
theorem dg_sign {nf : Nat} {ex ce ce' : Int64} {es : Nat → Int64} {sg : Nat → Int32} {pa sp pa' sp' : Nat → Int64} (D : dg_D nf ex ce es sg pa sp) {i v : Nat} (hi : i < 64) (hv : v < 4) (hx : da_b ex i = true)
    (hA : v ≠ nf → dg_Acc ce es i ∧ bt (sg (i ^^^ 1)) v = false)
    (hce : ∀ j, da_b ce' j = true ↔ (da_b ce j = true ∨ (j = i ∧ 3 ≤ da_n (bt (sg i ||| ((1 : Int32) <<< (nI v &&& 31)))) 4)))
    (hp : ∀ j, j ≠ i → pa' j = pa j ∧ sp' j = sp j) (hpi : da_b ce i = true → pa' i = pa i ∧ sp' i = sp i)
    (hpn : da_b ce' i = false → pa' i = pa i)
    (hpc : da_b ce i = false → da_b ce' i = true → dg_Acc ce es i → dg_Pa es pa' i ∧ dg_Sp es sp' i) :
    dg_D nf ex ce' es (upd sg i (sg i ||| ((1 : Int32) <<< (nI v &&& 31)))) pa' sp' := by
  have mono : ∀ j, da_b ce j = true → da_b ce' j = true := fun j h => (hce j).mpr (Or.inl h)
  have back : ∀ j, j ≠ i → (da_b ce' j = true ↔ da_b ce j = true) := fun j h => ⟨fun z => by
    rcases (hce j).mp z with z | z
    · exact z
    · exact absurd z.1 h, mono j⟩
  have backf : ∀ j, j ≠ i → da_b ce' j = false → da_b ce j = false := fun j h z => by
    cases e : da_b ce j
    · rfl
    · rw [mono j e] at z; exact absurd z (by decide)
  have same : ∀ j, da_b ce j = true → pa' j = pa j ∧ sp' j = sp j := fun j h => by
    by_cases e : j = i
    · subst e; exact hpi h
    · exact hp j e
  have X1 := da_x1 i hi
  have nb : ∀ k, bt (sg i ||| ((1 : Int32) <<< (nI v &&& 31))) k = (bt (sg i) k || decide (k = v)) := fun k => by rw [b_or, da_o32 (by omega)]
  -- acceptance under the new signatures
  have acN : ∀ w, w < 4 → w ≠ nf → w ≠ i / 2 % 4 → bt (sg i ||| ((1 : Int32) <<< (nI v &&& 31))) w = true → dg_Acc ce es i := by
    intro w hw h1 h2 h3
    rw [nb] at h3
    by_cases e : w = v
    · subst e; exact (hA h1).1
    · rw [decide_eq_false e, Bool.or_false] at h3
      exact dg_ac D hi w hw h1 h2 h3
  -- pasts of a vertex that was certified before
  have old : ∀ j, da_b ce j = true → dg_Pa es pa' j ∧ dg_Sp es sp' j := by
    intro j h
    have A := dg_acc D h
    have P := dg_ps D h
    have S := same j h
    constructor
    · intro q
      rw [S.1, P.1 q]
      constructor
      · rintro (z | ⟨k, hk, z⟩)
        · exact Or.inl z
        · exact Or.inr ⟨k, hk, by rw [(same k (A.1 k hk).2).1]; exact z⟩
      · rintro (z | ⟨k, hk, z⟩)
        · exact Or.inl z
        · exact Or.inr ⟨k, hk, by rw [← (same k (A.1 k hk).2).1]; exact z⟩
    · intro q
      rw [S.2, P.2 q]
      constructor
      · rintro (z | ⟨k, hk, h8, z⟩)
        · exact Or.inl z
        · exact Or.inr ⟨k, hk, h8, by rw [(same k (A.1 k hk).2).2]; exact z⟩
      · rintro (z | ⟨k, hk, h8, z⟩)
        · exact Or.inl z
        · exact Or.inr ⟨k, hk, h8, by rw [← (same k (A.1 k hk).2).2]; exact z⟩
  intro j hj
  by_cases ej : j = i
  · subst ej
    have hne : j ^^^ 1 ≠ j := by omega
    unfold dg_D1
    rw [pk_us, pk_un hne]
    have O := D j hj
    have cei : da_b ce' j = true ↔ 3 ≤ da_n (bt (sg j ||| ((1 : Int32) <<< (nI v &&& 31)))) 4 := by
      rw [hce j]
      constructor
      · rintro (z | z)
        · have := O.2.2.1.mp z
          have m := da_n_mono (f := bt (sg j)) (g := bt (sg j ||| ((1 : Int32) <<< (nI v &&& 31)))) 4 (fun k _ h => by rw [nb, h, Bool.true_or])
          omega
        · exact z.2
      · intro z; exact Or.inr ⟨rfl, z⟩
    refine ⟨fun k hk => by rw [nb, O.1 k hk, decide_eq_false (by omega)]; rfl, ⟨fun _ => ?_, fun _ => hx⟩, cei, fun _ => by rw [nb, O.2.2.2.1 hx, Bool.true_or], O.2.2.2.2.1, ?_, ?_, ?_, ?_⟩
    · intro z
      have := nb v
      rw [z, b_0, decide_eq_true rfl, Bool.or_true] at this
      exact absurd this (by decide)
    · intro w hw h1 h2 h3
      rw [nb] at h2
      by_cases e : w = v
      · subst e
        rw [(hA h1).2] at h3; exact absurd h3 (by decide)
      · rw [decide_eq_false e, Bool.or_false] at h2
        exact O.2.2.2.2.2.1 w hw h1 h2 h3
    · intro w hw h1 h2 h3
      exact dg_AccM mono (acN w hw h1 h2 h3)
    · intro z
      rw [hpn z]
      cases e : da_b ce j
      · exact dg_p0 D hj e
      · rw [mono j e] at z; exact absurd z (by decide)
    · intro z
      cases e : da_b ce j
      · obtain ⟨w, hw, h1, h2, h3⟩ := da_pick2 nf (j / 2 % 4) 4 (cei.mp z)
        exact hpc e z (acN w hw h1 h2 h3)
      · exact old j e
  · have O := D j hj
    unfold dg_D1
    rw [pk_un ej]
    refine ⟨O.1, O.2.1, (back j ej).trans O.2.2.1, O.2.2.2.1, O.2.2.2.2.1, ?_, ?_, ?_, ?_⟩
    · intro w hw h1 h2 h3
      by_cases ep : j ^^^ 1 = i
      · have e2 : i ^^^ 1 = j := by rw [← ep]; exact (da_x1 j hj).2.2.2
        rw [ep, pk_us, nb] at h3
        by_cases e : w = v
        · subst e
          have := (hA h1).2
          rw [e2, h2] at this
          exact absurd this (by decide)
        · rw [decide_eq_false e, Bool.or_false] at h3
          have h2' : bt (sg (i ^^^ 1)) w = true := by rw [e2]; exact h2
          exact dg_pt D hi w hw h1 h3 h2'
      · rw [pk_un ep] at h3
        exact O.2.2.2.2.2.1 w hw h1 h2 h3
    · intro w hw h1 h2 h3
      exact dg_AccM mono (O.2.2.2.2.2.2.1 w hw h1 h2 h3)
    · intro z
      rw [(hp j ej).1]
      exact O.2.2.2.2.2.2.2.1 (backf j ej z)
    · intro z
      exact old j ((back j ej).mp z)
end
section
/-! leaders, the chain, delivered places, one validator's view -/
def dg_i (ns w : Nat) : Nat := 16 * (w - 1) + 2 * ((ns + w - 1) % 4)
def dg_l (ns : Nat) (ce : Int64) (w : Nat) : Nat := if da_b ce (dg_i ns w) = true then dg_i ns w else if da_b ce (dg_i ns w + 1) = true then dg_i ns w + 1 else 64
theorem dg_l_c {ns w : Nat} {ce : Int64} (h : dg_l ns ce w < 64) : da_b ce (dg_l ns ce w) = true := by
  unfold dg_l at h ⊢
  by_cases h1 : da_b ce (dg_i ns w) = true
  · rw [if_pos h1]; exact h1
  · rw [if_neg h1] at h ⊢
    by_cases h2 : da_b ce (dg_i ns w + 1) = true
    · rw [if_pos h2]; exact h2
    · rw [if_neg h2] at h; omega
theorem dg_l_or {ns w : Nat} {ce : Int64} (h : dg_l ns ce w < 64) : dg_l ns ce w = dg_i ns w ∨ dg_l ns ce w = dg_i ns w + 1 := by
  unfold dg_l at h ⊢
  by_cases h1 : da_b ce (dg_i ns w) = true
  · rw [if_pos h1]; exact Or.inl rfl
  · rw [if_neg h1] at h ⊢
    by_cases h2 : da_b ce (dg_i ns w + 1) = true
    · rw [if_pos h2]; exact Or.inr rfl
    · rw [if_neg h2] at h; omega
theorem dg_l_r {ns w : Nat} {ce : Int64} (h : dg_l ns ce w < 64) (hw : 1 ≤ w) : dg_l ns ce w / 8 = 2 * (w - 1) := by
  have e : dg_i ns w = 16 * (w - 1) + 2 * ((ns + w - 1) % 4) := rfl
  rcases dg_l_or h with z | z <;> rw [z, e] <;> omega
theorem dg_l_64 {ns w : Nat} {ce : Int64} : dg_l ns ce w ≤ 64 := by
  rcases Nat.lt_or_ge (dg_l ns ce w) 64 with h | h
  · omega
  · unfold dg_l at h ⊢
    by_cases h1 : da_b ce (dg_i ns w) = true
    · rw [if_pos h1]; have := da_lt h1; omega
    · rw [if_neg h1]
      by_cases h2 : da_b ce (dg_i ns w + 1) = true
      · rw [if_pos h2]; have := da_lt h2; omega
      · rw [if_neg h2]; omega
/-- leaders stay -/
theorem dg_l_m {nf : Nat} {ex ce ce' : Int64} {es : Nat → Int64} {sg : Nat → Int32} {pa sp : Nat → Int64} {ns w : Nat} (D' : dg_D nf ex ce' es sg pa sp) (hm : ∀ j, da_b ce j = true → da_b ce' j = true) (h : dg_l ns ce w < 64) : dg_l ns ce' w = dg_l ns ce w := by
  have ev : dg_i ns w % 2 = 0 := by unfold dg_i; omega
  unfold dg_l at h ⊢
  by_cases h1 : da_b ce (dg_i ns w) = true
  · rw [if_pos h1, if_pos (hm _ h1)]
  · rw [if_neg h1] at h ⊢
    by_cases h2 : da_b ce (dg_i ns w + 1) = true
    · rw [if_pos h2, if_pos (hm _ h2), if_neg]
      intro z
      exact dg_un2 D' ev z (hm _ h2)
    · rw [if_neg h2] at h; omega
theorem dg_l_n {ns w : Nat} {ce ce' : Int64} (h : ¬ dg_l ns ce w < 64) : da_b ce (dg_l ns ce' w) = false := by
  have n1 : da_b ce (dg_i ns w) = false := by
    cases e : da_b ce (dg_i ns w)
    · rfl
    · exfalso; apply h; unfold dg_l; rw [if_pos e]; exact da_lt e
  have n2 : da_b ce (dg_i ns w + 1) = false := by
    cases e : da_b ce (dg_i ns w + 1)
    · rfl
    · exfalso; apply h; unfold dg_l; rw [if_neg (by rw [n1]; decide), if_pos e]; exact da_lt e
  rcases Nat.lt_or_ge (dg_l ns ce' w) 64 with z | z
  · rcases dg_l_or z with y | y <;> rw [y]
    · exact n1
    · exact n2
  · exact da_big z
/-- the chain from wave w downward, with what the last chained leader reaches -/
def dg_c (L : Nat → Nat) (sp : Nat → Int64) : Nat → Int64 → Nat → Bool
  | 0 => fun _ _ => false
  | w + 1 => fun r k => if da_b r (L (w + 1)) = true then (decide (k = w + 1) || dg_c L sp w (sp (L (w + 1))) k) else dg_c L sp w r k
theorem dg_c_t {L : Nat → Nat} {sp : Nat → Int64} {w k : Nat} {r : Int64} (h : da_b r (L (w + 1)) = true) : dg_c L sp (w + 1) r k = (decide (k = w + 1) || dg_c L sp w (sp (L (w + 1))) k) := if_pos h
theorem dg_c_f {L : Nat → Nat} {sp : Nat → Int64} {w k : Nat} {r : Int64} (h : da_b r (L (w + 1)) = false) : dg_c L sp (w + 1) r k = dg_c L sp w r k := if_neg (by rw [h]; decide)
theorem dg_c_in {L : Nat → Nat} {sp : Nat → Int64} : ∀ (w : Nat) (r : Int64) (k : Nat), dg_c L sp w r k = true → 1 ≤ k ∧ k ≤ w ∧ L k < 64 := by
  intro w
  induction w with
  | zero => intro r k h; exact absurd h (by unfold dg_c; decide)
  | succ w ih =>
    intro r k h
    cases e : da_b r (L (w + 1))
    · rw [dg_c_f e] at h
      have := ih r k h
      exact ⟨this.1, by omega, this.2.2⟩
    · rw [dg_c_t e] at h
      rcases Bool.or_eq_true_iff.mp h with z | z
      · have z := of_decide_eq_true z
        subst z
        exact ⟨by omega, Nat.le_refl _, da_lt e⟩
      · have := ih _ k z
        exact ⟨this.1, by omega, this.2.2⟩
theorem dg_c_hi {L : Nat → Nat} {sp : Nat → Int64} {w k : Nat} {r : Int64} (h : w < k) : dg_c L sp w r k = false := by
  cases e : dg_c L sp w r k
  · rfl
  · have := dg_c_in w r k e; omega
theorem dg_c_st {ce : Int64} {L L' : Nat → Nat} {sp sp' : Nat → Int64} (h1 : ∀ w, L w < 64 → L' w = L w) (h2 : ∀ w, ¬ L w < 64 → da_b ce (L' w) = false)
    (h3 : ∀ j, da_b ce j = true → sp' j = sp j) (h4 : ∀ y, da_b ce y = true → ∀ j, da_b (sp y) j = true → da_b ce j = true) : ∀ (w : Nat) (r : Int64) (k : Nat), (∀ j, da_b r j = true → da_b ce j = true) → dg_c L' sp' w r k = dg_c L sp w r k := by
  intro w
  induction w with
  | zero => intro r k _; rfl
  | succ w ih =>
    intro r k hr
    by_cases hl : L (w + 1) < 64
    · have el := h1 _ hl
      cases e : da_b r (L (w + 1))
      · rw [dg_c_f e, dg_c_f (by rw [el]; exact e), ih r k hr]
      · have c := hr _ e
        rw [dg_c_t e, dg_c_t (by rw [el]; exact e), el, h3 _ c, ih _ k (h4 _ c)]
    · have e1 : da_b r (L (w + 1)) = false := da_big (by omega)
      have e2 : da_b r (L' (w + 1)) = false := by
        cases e : da_b r (L' (w + 1))
        · rfl
        · have := hr _ e; rw [h2 _ hl] at this; exact absurd this (by decide)
      rw [dg_c_f e1, dg_c_f e2, ih r k hr]
theorem dg_c_top {ce : Int64} {L L' : Nat → Nat} {sp sp' : Nat → Int64} (h1 : ∀ w, L w < 64 → L' w = L w) (h2 : ∀ w, ¬ L w < 64 → da_b ce (L' w) = false)
    (h3 : ∀ j, da_b ce j = true → sp' j = sp j) (h4 : ∀ y, da_b ce y = true → ∀ j, da_b (sp y) j = true → da_b ce j = true) (hc : ∀ w, L w < 64 → da_b ce (L w) = true) (t k : Nat) (ht : 1 ≤ t → L t < 64) : dg_c L' sp' t (-1) k = dg_c L sp t (-1) k := by
  cases t with
  | zero => rfl
  | succ t =>
    have hl := ht (by omega)
    have el := h1 _ hl
    have e : da_b (-1) (L (t + 1)) = true := da_m1 _ hl
    have c := hc _ hl
    rw [dg_c_t e, dg_c_t (by rw [el]; exact e), el, h3 _ c, dg_c_st h1 h2 h3 h4 t _ k (h4 _ c)]
/-- a later chain continues the stored one -/
theorem dg_cont {L : Nat → Nat} {sp : Nat → Int64} {t : Nat} (ht : 1 ≤ t) : ∀ (n : Nat) (r : Int64), t ≤ n → (∀ w, t < w → w ≤ n → L w < 64 → da_b (sp (L w)) (L t) = true) → da_b r (L t) = true → ∀ k, k ≤ t → dg_c L sp n r k = dg_c L sp t (-1) k := by
  intro n
  induction n with
  | zero => intro r h; omega
  | succ n ih =>
    intro r h hS hr k hk
    by_cases e : t = n + 1
    · subst e
      rw [dg_c_t hr, dg_c_t (da_m1 _ (da_lt hr))]
    · have hS' : ∀ w, t < w → w ≤ n → L w < 64 → da_b (sp (L w)) (L t) = true := fun w h1 h2 => hS w h1 (by omega)
      cases e2 : da_b r (L (n + 1))
      · rw [dg_c_f e2]; exact ih r (by omega) hS' hr k hk
      · rw [dg_c_t e2, decide_eq_false (by omega), Bool.false_or]
        exact ih _ (by omega) hS' (hS (n + 1) (by omega) (Nat.le_refl _) (da_lt e2)) k hk
/-! what is delivered: P w i: vertex i is in the part of wave w -/
def dg_P (cw : Int32) (L : Nat → Nat) (pa : Nat → Int64) (w i : Nat) : Bool := bt cw w && da_b (pa (L w)) i
def dg_s (P : Nat → Nat → Bool) : Nat → Nat → Bool
  | 0 => fun _ => false
  | w + 1 => fun i => dg_s P w i || P (w + 1) i
def dg_f (P : Nat → Nat → Bool) (w i : Nat) : Bool := P (w + 1) i && !dg_s P w i
def dg_t (P : Nat → Nat → Bool) : Nat → Nat
  | 0 => 0
  | w + 1 => dg_t P w + da_n (dg_f P w) 64
def dg_Q (P : Nat → Nat → Bool) (t : Nat) (sq : Nat → Int32) : Prop := ∀ w, w < t → ∀ i, i < 64 → dg_f P w i = true → sq (dg_t P w + da_n (dg_f P w) i) = nI i
theorem dg_ts (P : Nat → Nat → Bool) : ∀ w, dg_t P w = da_n (dg_s P w) 64
  | 0 => (da_n_zero 64 (fun _ _ => rfl)).symm
  | w + 1 => by
    show dg_t P w + da_n (dg_f P w) 64 = da_n (fun i => dg_s P w i || P (w + 1) i) 64
    rw [dg_ts P w, da_n_or]
    rfl
theorem dg_t64 (P : Nat → Nat → Bool) (w : Nat) : dg_t P w ≤ 64 := by rw [dg_ts]; exact da_n_le _ 64
theorem dg_s_cg {P P' : Nat → Nat → Bool} {t : Nat} (h : ∀ w, 1 ≤ w → w ≤ t → ∀ i, P' w i = P w i) : ∀ w, w ≤ t → ∀ i, dg_s P' w i = dg_s P w i
  | 0, _, _ => rfl
  | w + 1, hw, i => by
    show (dg_s P' w i || P' (w + 1) i) = (dg_s P w i || P (w + 1) i)
    rw [dg_s_cg h w (by omega) i, h (w + 1) (by omega) hw i]
theorem dg_f_cg {P P' : Nat → Nat → Bool} {t : Nat} (h : ∀ w, 1 ≤ w → w ≤ t → ∀ i, P' w i = P w i) (w : Nat) (hw : w < t) : dg_f P' w = dg_f P w := by
  funext i
  unfold dg_f
  rw [h (w + 1) (by omega) (by omega) i, dg_s_cg h w (by omega) i]
theorem dg_t_cg {P P' : Nat → Nat → Bool} {t : Nat} (h : ∀ w, 1 ≤ w → w ≤ t → ∀ i, P' w i = P w i) : ∀ w, w ≤ t → dg_t P' w = dg_t P w
  | 0, _ => rfl
  | w + 1, hw => by
    show dg_t P' w + da_n (dg_f P' w) 64 = dg_t P w + da_n (dg_f P w) 64
    rw [dg_t_cg h w (by omega), dg_f_cg h w (by omega)]
theorem dg_Q_cg {P P' : Nat → Nat → Bool} {t : Nat} {sq : Nat → Int32} (h : ∀ w, 1 ≤ w → w ≤ t → ∀ i, P' w i = P w i) (q : dg_Q P t sq) : dg_Q P' t sq := by
  intro w hw i hi hf
  rw [dg_f_cg h w hw] at hf ⊢
  rw [dg_t_cg h w (by omega)]
  exact q w hw i hi hf
theorem dg_s_by {P : Nat → Nat → Bool} {t : Nat} (h : ∀ w, t < w → ∀ i, P w i = false) : ∀ d i, dg_s P (t + d) i = dg_s P t i
  | 0, _ => rfl
  | d + 1, i => by
    show (dg_s P (t + d) i || P (t + d + 1) i) = _
    rw [dg_s_by h d i, h (t + d + 1) (by omega) i, Bool.or_false]
theorem dg_f_by {P : Nat → Nat → Bool} {w : Nat} (h : ∀ i, P (w + 1) i = false) (i : Nat) : dg_f P w i = false := by
  unfold dg_f; rw [h i]; rfl
theorem dg_t_0 {P : Nat → Nat → Bool} {w : Nat} (h : ∀ i, P (w + 1) i = false) : dg_t P (w + 1) = dg_t P w := by
  show dg_t P w + da_n (dg_f P w) 64 = dg_t P w
  rw [da_n_zero 64 (fun i _ => dg_f_by h i), Nat.add_zero]
theorem dg_s_0 {P : Nat → Nat → Bool} {w : Nat} (h : ∀ i, P (w + 1) i = false) (i : Nat) : dg_s P (w + 1) i = dg_s P w i := by
  show (dg_s P w i || P (w + 1) i) = dg_s P w i
  rw [h i, Bool.or_false]
theorem dg_Q_0 {P : Nat → Nat → Bool} {w : Nat} {sq : Nat → Int32} (h : ∀ i, P (w + 1) i = false) (q : dg_Q P w sq) : dg_Q P (w + 1) sq := by
  intro u hu i hi hf
  by_cases e : u = w
  · subst e; rw [dg_f_by h i] at hf; exact absurd hf (by decide)
  · exact q u (by omega) i hi hf
theorem dg_t_by {P : Nat → Nat → Bool} {t : Nat} (h : ∀ w, t < w → ∀ i, P w i = false) : ∀ d, dg_t P (t + d) = dg_t P t
  | 0 => rfl
  | d + 1 => by
    rw [← Nat.add_assoc, dg_t_0 (fun i => h (t + d + 1) (by omega) i), dg_t_by h d]
/-! the view of one validator -/
def dg_A (es : Nat → Int64) (g a : Int64) : Prop := ∀ i, da_b a i = true ↔ (da_b g i = true ∧ ∀ j, da_b (es i) j = true → da_b a j = true)
def dg_sc (a : Int64) (es : Nat → Int64) (x w : Nat) : Nat := da_n (fun k => da_b a (8 * (2 * w - 1) + k) && da_b (es (8 * (2 * w - 1) + k)) x) 8
def dg_W1 (nw ns : Nat) (ce : Int64) (es pa sp : Nat → Int64) (adv : Int64) (lwv cwv : Int32) (dlv : Int64) (slv : Int32) (sqv : Nat → Int32) (t : Nat) : Prop :=
  t ≤ nw ∧ lwv = nI t ∧ (1 ≤ t → dg_l ns ce t < 64 ∧ 2 ≤ dg_sc adv es (dg_l ns ce t) t) ∧ (∀ k, bt cwv k = dg_c (dg_l ns ce) sp t (-1) k) ∧
  (∀ i, da_b dlv i = dg_s (dg_P cwv (dg_l ns ce) pa) t i) ∧ slv = nI (dg_t (dg_P cwv (dg_l ns ce) pa) t) ∧ dg_Q (dg_P cwv (dg_l ns ce) pa) t sqv
def dg_W (nw ns : Nat) (ce : Int64) (es pa sp : Nat → Int64) (adv : Int64) (lwv cwv : Int32) (dlv : Int64) (slv : Int32) (sqv : Nat → Int32) : Prop :=
  ∃ t, dg_W1 nw ns ce es pa sp adv lwv cwv dlv slv sqv t
def dg_V (nw nf ns v : Nat) (ce : Int64) (es pa sp : Nat → Int64) (crv : Int32) (rcv adv : Int64) (lwv cwv : Int32) (dlv : Int64) (slv : Int32) (sqv : Nat → Int32) : Prop :=
  (∃ r, 1 ≤ r ∧ r ≤ 2 * nw ∧ crv = nI r) ∧ (v = nf → rcv = 0) ∧ (∀ i, da_b rcv i = true → da_b ce i = true) ∧ dg_A es rcv adv ∧ dg_W nw ns ce es pa sp adv lwv cwv dlv slv sqv
theorem dg_Pt {ns : Nat} {ce : Int64} {pa sp : Nat → Int64} {cwv : Int32} {t : Nat} (h : ∀ k, bt cwv k = dg_c (dg_l ns ce) sp t (-1) k) : ∀ w, t < w → ∀ i, dg_P cwv (dg_l ns ce) pa w i = false := by
  intro w hw i
  unfold dg_P
  rw [h w, dg_c_hi hw, Bool.false_and]
theorem dg_Wm {nf : Nat} {ex ex' ce ce' : Int64} {es es' : Nat → Int64} {sg sg' : Nat → Int32} {pa sp pa' sp' : Nat → Int64} (D : dg_D nf ex ce es sg pa sp) (D' : dg_D nf ex' ce' es' sg' pa' sp')
    (hc : ∀ j, da_b ce j = true → da_b ce' j = true ∧ es' j = es j ∧ pa' j = pa j ∧ sp' j = sp j) {nw ns : Nat} {adv : Int64} {lwv cwv : Int32} {dlv : Int64} {slv : Int32} {sqv : Nat → Int32} (ha : ∀ i, da_b adv i = true → da_b ce i = true)
    (h : dg_W nw ns ce es pa sp adv lwv cwv dlv slv sqv) : dg_W nw ns ce' es' pa' sp' adv lwv cwv dlv slv sqv := by
  obtain ⟨t, h1, h2, h3, h4, h5, h6, h7⟩ := h
  have m1 : ∀ w, dg_l ns ce w < 64 → dg_l ns ce' w = dg_l ns ce w := fun w hw => dg_l_m D' (fun j z => (hc j z).1) hw
  have hP : ∀ w i, dg_P cwv (dg_l ns ce') pa' w i = dg_P cwv (dg_l ns ce) pa w i := by
    intro w i
    unfold dg_P
    cases e : bt cwv w
    · rfl
    · rw [h4 w] at e
      have z := (dg_c_in t _ w e).2.2
      rw [m1 w z, (hc _ (dg_l_c z)).2.2.1]
  have eP : dg_P cwv (dg_l ns ce') pa' = dg_P cwv (dg_l ns ce) pa := by funext w i; exact hP w i
  refine ⟨t, h1, h2, ?_, ?_, ?_, ?_, ?_⟩
  · intro z
    have y := h3 z
    rw [m1 t y.1]
    refine ⟨y.1, ?_⟩
    have : dg_sc adv es' (dg_l ns ce t) t = dg_sc adv es (dg_l ns ce t) t := by
      unfold dg_sc
      apply da_n_congr
      intro k _
      cases e : da_b adv (8 * (2 * t - 1) + k)
      · rfl
      · rw [(hc _ (ha _ e)).2.1]
    rw [this]; exact y.2
  · intro k
    rw [h4 k]
    exact (dg_c_top m1 (fun w hw => dg_l_n hw) (fun j z => (hc j z).2.2.2) (fun y z j q => (dg_scl D y z j q).1) (fun w hw => dg_l_c hw) t k (fun z => (h3 z).1)).symm
  · rw [eP]; exact h5
  · rw [eP]; exact h6
  · rw [eP]; exact h7
theorem dg_Vm {nf : Nat} {ex ex' ce ce' : Int64} {es es' : Nat → Int64} {sg sg' : Nat → Int32} {pa sp pa' sp' : Nat → Int64} (D : dg_D nf ex ce es sg pa sp) (D' : dg_D nf ex' ce' es' sg' pa' sp')
    (hc : ∀ j, da_b ce j = true → da_b ce' j = true ∧ es' j = es j ∧ pa' j = pa j ∧ sp' j = sp j) {nw ns v : Nat} {crv : Int32} {rcv adv : Int64} {lwv cwv : Int32} {dlv : Int64} {slv : Int32} {sqv : Nat → Int32}
    (h : dg_V nw nf ns v ce es pa sp crv rcv adv lwv cwv dlv slv sqv) : dg_V nw nf ns v ce' es' pa' sp' crv rcv adv lwv cwv dlv slv sqv := by
  obtain ⟨h1, h2, h3, h4, h5⟩ := h
  refine ⟨h1, h2, fun i z => (hc i (h3 i z)).1, ?_, dg_Wm D D' hc (fun i z => h3 i ((h4 i).mp z).1) h5⟩
  intro i
  rw [h4 i]
  constructor
  · rintro ⟨a, b⟩
    exact ⟨a, by rw [(hc i (h3 i a)).2.1]; exact b⟩
  · rintro ⟨a, b⟩
    exact ⟨a, by rw [(hc i (h3 i a)).2.1] at b; exact b⟩
/-- more is admitted -/
theorem dg_Wa {nw ns : Nat} {ce : Int64} {es pa sp : Nat → Int64} {adv adv' : Int64} {lwv cwv : Int32} {dlv : Int64} {slv : Int32} {sqv : Nat → Int32} (hm : ∀ i, da_b adv i = true → da_b adv' i = true)
    (h : dg_W nw ns ce es pa sp adv lwv cwv dlv slv sqv) : dg_W nw ns ce es pa sp adv' lwv cwv dlv slv sqv := by
  obtain ⟨t, h1, h2, h3, h4⟩ := h
  refine ⟨t, h1, h2, fun z => ⟨(h3 z).1, ?_⟩, h4⟩
  have y := (h3 z).2
  have : dg_sc adv es (dg_l ns ce t) t ≤ dg_sc adv' es (dg_l ns ce t) t := da_n_mono 8 (fun k _ q => by
    rw [Bool.and_eq_true] at q ⊢
    exact ⟨hm _ q.1, q.2⟩)
  omega
/-! what a pass downward reaches -/
def dg_Cl (H P : Nat → Int64) (ce : Int64) : Prop := ∀ i, da_b ce i = true → (∀ k, da_b (H i) k = true → k < i ∧ da_b ce k = true) ∧ ∀ j, da_b (P i) j = true ↔ (j = i ∨ ∃ k, da_b (H i) k = true ∧ da_b (P k) j = true)
def dg_R (P : Nat → Int64) (ce : Int64) (x : Nat) (r : Int64) (n : Nat) : Prop :=
  (∀ k, da_b r k = true → da_b ce k = true ∧ ∀ j, da_b (P k) j = true → da_b (P x) j = true) ∧ (∀ j, da_b r j = true → da_b (P x) j = true) ∧
  (∀ j, da_b (P x) j = true → da_b r j = true ∨ ∃ k, k < n ∧ da_b r k = true ∧ da_b (P k) j = true)
theorem dg_R_0 {H P : Nat → Int64} {ce : Int64} (C : dg_Cl H P ce) {x : Nat} (hx : da_b ce x = true) : dg_R P ce x ((1 : Int64) <<< ((nI x).toInt64 &&& 63)) (x + 1) := by
  have o := da_one (da_lt hx)
  refine ⟨fun k z => ?_, fun j z => ?_, fun j z => Or.inr ⟨x, by omega, by rw [o, decide_eq_true rfl], z⟩⟩
  · rw [o] at z
    have z := of_decide_eq_true z
    subst z
    exact ⟨hx, fun _ q => q⟩
  · rw [o] at z
    have z := of_decide_eq_true z
    subst z
    exact ((C j hx).2 j).mpr (Or.inl rfl)
theorem dg_R_t {H P : Nat → Int64} {ce : Int64} (C : dg_Cl H P ce) {x n : Nat} {r : Int64} (h : dg_R P ce x r (n + 1)) (hn : da_b r n = true) : dg_R P ce x (r ||| H n) n := by
  obtain ⟨a, b, c⟩ := h
  have N := a n hn
  have Q := C n N.1
  have sub : ∀ k, da_b (H n) k = true → ∀ j, da_b (P k) j = true → da_b (P x) j = true := fun k hk j hj => N.2 j ((Q.2 j).mpr (Or.inr ⟨k, hk, hj⟩))
  have self : ∀ k, da_b ce k = true → da_b (P k) k = true := fun k hk => ((C k hk).2 k).mpr (Or.inl rfl)
  refine ⟨fun k z => ?_, fun j z => ?_, fun j z => ?_⟩
  · rw [da_or, Bool.or_eq_true] at z
    rcases z with z | z
    · exact a k z
    · exact ⟨(Q.1 k z).2, sub k z⟩
  · rw [da_or, Bool.or_eq_true] at z
    rcases z with z | z
    · exact b j z
    · exact sub j z j (self j (Q.1 j z).2)
  · rcases c j z with z | ⟨k, hk, h1, h2⟩
    · left; rw [da_or, z, Bool.true_or]
    · by_cases e : k = n
      · subst e
        rcases (Q.2 j).mp h2 with y | ⟨q, hq, y⟩
        · subst y; left; rw [da_or, hn, Bool.true_or]
        · right; exact ⟨q, (Q.1 q hq).1, by rw [da_or, hq, Bool.or_true], y⟩
      · right; exact ⟨k, by omega, by rw [da_or, h1, Bool.true_or], h2⟩
theorem dg_R_f {P : Nat → Int64} {ce : Int64} {x n : Nat} {r : Int64} (h : dg_R P ce x r (n + 1)) (hn : da_b r n = false) : dg_R P ce x r n := by
  refine ⟨h.1, h.2.1, fun j z => ?_⟩
  rcases h.2.2 j z with z | ⟨k, hk, h1, h2⟩
  · exact Or.inl z
  · by_cases e : k = n
    · subst e; rw [hn] at h1; exact absurd h1 (by decide)
    · exact Or.inr ⟨k, by omega, h1, h2⟩
theorem dg_R_e {P : Nat → Int64} {ce : Int64} {x : Nat} {r : Int64} (h : dg_R P ce x r 0) : r = P x := da_exi (fun i _ => ⟨h.2.1 i, fun z => by
  rcases h.2.2 i z with z | ⟨k, hk, _⟩
  · exact z
  · omega⟩)
/-- the ids of round q (1 ..), none for 0 -/
def dg_m (q : Nat) : Int64 := if q = 0 then 0 else (255 : Int64) <<< ((nI (8 * (q - 1))).toInt64 &&& 63)
theorem dg_m_b {q : Nat} (hq : q ≤ 8) (j : Nat) : da_b (dg_m q) j = decide (j / 8 + 1 = q) := by
  unfold dg_m
  by_cases h : q = 0
  · rw [if_pos h, da_0, decide_eq_false (by omega)]
  · rw [if_neg h, da_rd (by omega)]
    exact decide_eq_decide.mpr (by omega)
theorem dg_Clp {nf : Nat} {ex ce : Int64} {es : Nat → Int64} {sg : Nat → Int32} {pa sp : Nat → Int64} (D : dg_D nf ex ce es sg pa sp) : dg_Cl es pa ce := by
  intro i h
  have A := dg_acc D h
  refine ⟨fun k hk => ⟨by have := (A.1 k hk).1; omega, (A.1 k hk).2⟩, (dg_ps D h).1⟩
theorem dg_Cls {nf : Nat} {ex ce : Int64} {es : Nat → Int64} {sg : Nat → Int32} {pa sp : Nat → Int64} (D : dg_D nf ex ce es sg pa sp) : dg_Cl (fun i => es i &&& dg_m (i / 8)) sp ce := by
  intro i h
  have A := dg_acc D h
  have hi := da_lt h
  have m : ∀ k, da_b (es i &&& dg_m (i / 8)) k = true ↔ (da_b (es i) k = true ∧ k / 8 + 1 = i / 8) := fun k => by
    rw [da_and, dg_m_b (by omega), Bool.and_eq_true, decide_eq_true_eq]
  refine ⟨fun k hk => ?_, fun j => ?_⟩
  · have hk := (m k).mp hk
    have := A.1 k hk.1
    exact ⟨by omega, this.2⟩
  · rw [(dg_ps D h).2 j]
    constructor
    · rintro (z | ⟨k, a, b, c⟩)
      · exact Or.inl z
      · exact Or.inr ⟨k, (m k).mpr ⟨a, b⟩, c⟩
    · rintro (z | ⟨k, a, c⟩)
      · exact Or.inl z
      · exact Or.inr ⟨k, ((m k).mp a).1, ((m k).mp a).2, c⟩
/-- the greatest wave above t, at most w, with p -/
def dg_g (p : Nat → Bool) (t : Nat) : Nat → Nat
  | 0 => 0
  | w + 1 => if t < w + 1 ∧ p (w + 1) = true then w + 1 else dg_g p t w
theorem dg_g_lo {p : Nat → Bool} {t : Nat} : ∀ w, w ≤ t → dg_g p t w = 0
  | 0, _ => rfl
  | w + 1, h => by
    show (if t < w + 1 ∧ p (w + 1) = true then w + 1 else dg_g p t w) = 0
    rw [if_neg (by omega), dg_g_lo w (by omega)]
theorem dg_g_t {p : Nat → Bool} {t w : Nat} (h : t < w + 1) (hp : p (w + 1) = true) : dg_g p t (w + 1) = w + 1 := if_pos ⟨h, hp⟩
theorem dg_g_f {p : Nat → Bool} {t w : Nat} (hp : p (w + 1) = false) : dg_g p t (w + 1) = dg_g p t w := if_neg (by rw [hp]; simp)
theorem dg_g_in {p : Nat → Bool} {t : Nat} : ∀ w, dg_g p t w ≠ 0 → t < dg_g p t w ∧ dg_g p t w ≤ w ∧ p (dg_g p t w) = true
  | 0, h => absurd rfl h
  | w + 1, h => by
    by_cases c : t < w + 1 ∧ p (w + 1) = true
    · have e : dg_g p t (w + 1) = w + 1 := if_pos c
      rw [e]; exact ⟨c.1, Nat.le_refl _, c.2⟩
    · have e : dg_g p t (w + 1) = dg_g p t w := if_neg c
      rw [e] at h ⊢
      have := dg_g_in w h
      exact ⟨this.1, by omega, this.2.2⟩
def dg_u (ns : Nat) (ce : Int64) (es : Nat → Int64) (adv : Int64) (w : Nat) : Bool := decide (dg_l ns ce w < 64) && decide (2 ≤ dg_sc adv es (dg_l ns ce w) w)
end
section
/-! X's small methods -/
section XW
variable {nw nf ns : Nat} {ex ce : Int64} {cm : Nat → Int32} {es : Nat → Int64} {sg : Nat → Int32} {pa sp : Nat → Int64} {cr : Nat → Int32} {rc ad : Nat → Int64} {lw cw : Nat → Int32} {dl : Nat → Int64} {sl sq : Nat → Int32}
theorem xa_has {A B : Prop} {u : SX} {x : Int64} {k : Nat} (hk : k < 64) (h1 : da_b x k = true → B) (h0 : da_b x k = false → A) : wpX_has (fun r => (r = 0 → A) ∧ (¬ r = 0 → B)) u x (nI k) := by
  obtain ⟨_, _, _, _, _, _, _, _, _, _, _, _, _, _, _, _, _, _, _⟩ := u
  unfold wpX_has
  exact And.intro (fun e => br_t rfl (h0 ((da_has hk x).mp e))) (fun e => br_f (by decide) (h1 (ts_nf (fun z => e ((da_has hk x).mpr z)))))
theorem xa_i32 {A B : Prop} {u : SX} {x : Int32} {k : Nat} (hk : k < 32) (h1 : bt x k = true → B) (h0 : bt x k = false → A) : wpX_has (fun r => (r = 0 → A) ∧ (¬ r = 0 → B)) u x.toInt64 (nI k) :=
  xa_has (by omega) (fun h => h1 (by rw [← da_i64 x hk]; exact h)) (fun h => h0 (by rw [← da_i64 x hk]; exact h))
theorem xa_cnt5 {post : Int32 → Prop} {x : Int64} : ∀ (n i : Nat), 8 < n + i → i ≤ 8 → post (nI (da_n (da_b x) 8)) → wX_countLowByte_5 post x (nI nw) (nI (2 * nw)) (nI nf) (nI ns) ex ce cm es sg pa sp cr rc ad lw cw dl sl sq n (nI (da_n (da_b x) i)) (nI i) := by
  intro n
  induction n with
  | zero => intro i h1 h2; omega
  | succ n ih =>
    intro i hn hi hp
    refine pk_le 8 i (fun h => ?_) (fun h => xa_has (by omega) (fun hb => ?_) (fun hb => ?_))
    · have e : i = 8 := by omega
      subst e; exact hp
    · exact nm_r (e' := nI (da_n (da_b x) (i + 1))) (by rw [nI_1, da_nt hb]) (nm_r (nI_1 i) (ih (i + 1) (by omega) (by omega) hp))
    · refine nm_r (nI_1 i) ?_
      have := ih (i + 1) (by omega) (by omega) hp
      rw [da_nf hb] at this
      exact this
theorem xa_cnt {post : Int32 → Prop} {x : Int64} (h : post (nI (da_n (da_b x) 8))) : wpX_countLowByte post (nI nw, nI (2 * nw), nI nf, nI ns, ex, ce, cm, es, sg, pa, sp, cr, rc, ad, lw, cw, dl, sl, sq) x :=
  Exists.intro 9 (xa_cnt5 9 0 (by omega) (by omega) h)
theorem xa_unc19 {post : Int64 → Prop} {o : Int64} : ∀ (n i : Nat) (c : Int64), 64 < n + i → i ≤ 64 → (∀ q, da_b c q = true ↔ ∃ j, j < i ∧ da_b o j = true ∧ da_b (es j) q = true) →
    (∀ c, (∀ q, da_b c q = true ↔ ∃ j, da_b o j = true ∧ da_b (es j) q = true) → post (o &&& (c ^^^ (-1)))) → wX_uncoveredBelow_19 post o (nI nw) (nI (2 * nw)) (nI nf) (nI ns) ex ce cm es sg pa sp cr rc ad lw cw dl sl sq n c (nI i) := by
  intro n
  induction n with
  | zero => intro i c h1 h2; omega
  | succ n ih =>
    intro i c hn hi hc hp
    refine pk_le 64 i (fun h => ?_) (fun h => xa_has (by omega) (fun hb => ?_) (fun hb => ?_))
    · apply hp
      intro q
      rw [hc q]
      exact ⟨fun ⟨j, _, a, b⟩ => ⟨j, a, b⟩, fun ⟨j, a, b⟩ => ⟨j, by have := da_lt a; omega, a, b⟩⟩
    · refine And.intro (vp_in_nI (by omega) (by omega)) (nm_r (e' := c ||| es i) (by rw [nI_clamp (by omega)]) (nm_r (nI_1 i) (ih (i + 1) _ (by omega) (by omega) ?_ hp)))
      intro q
      rw [da_or, Bool.or_eq_true, hc q]
      constructor
      · rintro (⟨j, a, b⟩ | z)
        · exact ⟨j, by omega, b⟩
        · exact ⟨i, by omega, hb, z⟩
      · rintro ⟨j, a, b, d⟩
        by_cases e : j = i
        · subst e; exact Or.inr d
        · exact Or.inl ⟨j, by omega, b, d⟩
    · refine nm_r (nI_1 i) (ih (i + 1) _ (by omega) (by omega) ?_ hp)
      intro q
      rw [hc q]
      constructor
      · rintro ⟨j, a, b⟩
        exact ⟨j, by omega, b⟩
      · rintro ⟨j, a, b, d⟩
        by_cases e : j = i
        · subst e; rw [hb] at b; exact absurd b (by decide)
        · exact ⟨j, by omega, b, d⟩
/-- the edges of a proposal: admitted below the border b, and not covered from below b -/
def dg_pe (es : Nat → Int64) (a : Int64) (b : Nat) (e : Int64) : Prop := ∀ q, da_b e q = true ↔ ((da_b a q = true ∧ q < b) ∧ ¬ ∃ j, (da_b a j = true ∧ j < b) ∧ da_b (es j) q = true)
theorem xa_unc {post : Int64 → Prop} {v b : Nat} (hv : v < 4) (hb : b < 64) (h : ∀ e, dg_pe es (ad v) b e → post e) : wpX_uncoveredBelow post (nI nw, nI (2 * nw), nI nf, nI ns, ex, ce, cm, es, sg, pa, sp, cr, rc, ad, lw, cw, dl, sl, sq) (nI v) (nI b) := by
  have m : ∀ q, da_b (ad v &&& (((1 : Int64) <<< ((nI b).toInt64 &&& 63)) - 1)) q = true ↔ (da_b (ad v) q = true ∧ q < b) := fun q => by
    rw [da_and, da_low hb, Bool.and_eq_true, decide_eq_true_eq]
  refine And.intro (vp_in_nI hv (by omega)) (nm_r (e' := ad v &&& (((1 : Int64) <<< ((nI b).toInt64 &&& 63)) - 1)) (by rw [nI_clamp (by omega)]) (Exists.intro 65 (xa_unc19 65 0 0 (by omega) (by omega) ?_ ?_)))
  · intro q
    rw [da_0]
    exact ⟨fun z => absurd z (by decide), fun ⟨j, a, _⟩ => absurd a (by omega)⟩
  · intro c hc
    apply h
    intro q
    rw [da_andn, Bool.and_eq_true, m q, Bool.not_eq_true']
    constructor
    · rintro ⟨a, z⟩
      refine ⟨a, fun ⟨j, k1, k2⟩ => ?_⟩
      rw [(hc q).mpr ⟨j, (m j).mpr k1, k2⟩] at z
      exact absurd z (by decide)
    · rintro ⟨a, z⟩
      refine ⟨a, ?_⟩
      cases e : da_b c q
      · rfl
      · exfalso
        obtain ⟨j, k1, k2⟩ := (hc q).mp e
        exact z ⟨j, (m j).mp k1, k2⟩
theorem xa_make {post : SX → Prop} {i a : Nat} {c : Int32} {e : Int64} (hi : i < 64) (h : post (nI nw, nI (2 * nw), nI nf, nI ns, ex ||| ((1 : Int64) <<< ((nI i).toInt64 &&& 63)), ce, upd cm i c, vp_updL es i e, upd sg i ((1 : Int32) <<< (nI a &&& 31)), pa, sp, cr, rc, ad, lw, cw, dl, sl, sq)) : wpX_make post (nI nw, nI (2 * nw), nI nf, nI ns, ex, ce, cm, es, sg, pa, sp, cr, rc, ad, lw, cw, dl, sl, sq) (nI i) c e (nI a) := by
  have ec : (nI i).toNatClampNeg = i := nI_clamp (by omega)
  have hin : vp_in (nI i) 64 := vp_in_nI hi (by omega)
  simp only [wpX_make, ec, forall_eq]
  exact ⟨hin, hin, hin, h⟩
theorem xa_idr {A B : Prop} {x : Int32} (hn : nw ≤ 4) (h1 : ∀ i, i < 16 * nw → x = nI i → B) (h0 : (x < 0 ∨ nI (16 * nw) ≤ x) → A) : wpX_idInRange (fun r => (r = 0 → A) ∧ (¬ r = 0 → B)) (nI nw, nI (2 * nw), nI nf, nI ns, ex, ce, cm, es, sg, pa, sp, cr, rc, ad, lw, cw, dl, sl, sq) x := by
  have e : (8 : Int32) * nI (2 * nw) = nI (16 * nw) := by
    rw [show (8 : Int32) = nI 8 from rfl, pk_mul]
    exact congrArg nI (by omega)
  unfold wpX_idInRange
  dsimp only
  rw [e]
  rcases pk_ix x (n := 16 * nw) (by omega) with z | z | ⟨j, hj, rfl⟩
  · exact br_t z (br_t rfl (h0 (Or.inl z)))
  · refine br_c (fun _ => br_t rfl (h0 (Or.inr z))) (fun _ => br_t z (br_t rfl (h0 (Or.inr z))))
  · exact br_f (nI_pos (by omega)) (br_f (nI_ge hj (by omega)) (br_f (by decide) (h1 j hj rfl)))
theorem xa_rdr {A B : Prop} {x : Int32} (hn : nw ≤ 4) (h1 : ∀ i, 1 ≤ i → i ≤ 2 * nw → x = nI i → B) (h0 : (x < 1 ∨ nI (2 * nw) < x) → A) : wpX_roundInRange (fun r => (r = 0 → A) ∧ (¬ r = 0 → B)) (nI nw, nI (2 * nw), nI nf, nI ns, ex, ce, cm, es, sg, pa, sp, cr, rc, ad, lw, cw, dl, sl, sq) x := by
  unfold wpX_roundInRange
  by_cases z : x < 1
  · exact br_t z (br_t rfl (h0 (Or.inl z)))
  · by_cases y : nI (2 * nw) < x
    · exact br_f z (br_t y (br_t rfl (h0 (Or.inr y))))
    · have x0 : ¬ x < 0 := fun q => z (Int32.lt_trans q (by decide))
      obtain ⟨j, hj, rfl⟩ := nI_of x0
      rw [nI_ltI (by omega) hj] at y
      have z' : ¬ nI j < nI 1 := z
      rw [nI_ltI hj (by omega)] at z'
      exact br_f z (br_f (by rw [nI_ltI (by omega) hj]; exact y) (br_f (by decide) (h1 j (by omega) (by omega) rfl)))
theorem xa_ish {A B : Prop} {x : Int32} (hf : nf < 4) (h1 : ∀ v, v < 4 → v ≠ nf → x = nI v → B) (h0 : (x < 0 ∨ 3 < x ∨ x = nI nf) → A) : wpX_isHonest (fun r => (r = 0 → A) ∧ (¬ r = 0 → B)) (nI nw, nI (2 * nw), nI nf, nI ns, ex, ce, cm, es, sg, pa, sp, cr, rc, ad, lw, cw, dl, sl, sq) x := by
  unfold wpX_isHonest
  by_cases z : x < 0
  · exact br_t z (br_t rfl (h0 (Or.inl z)))
  · by_cases y : 3 < x
    · exact br_f z (br_t y (br_t rfl (h0 (Or.inr (Or.inl y)))))
    · by_cases q : x = nI nf
      · exact br_f z (br_f y (br_t q (br_t rfl (h0 (Or.inr (Or.inr q))))))
      · obtain ⟨j, hj, rfl⟩ := nI_of z
        have y' : ¬ nI 3 < nI j := y
        rw [nI_ltI (by omega) hj] at y'
        exact br_f z (br_f y (br_f q (br_f (by decide) (h1 j (by omega) (fun e => q (by rw [e])) rfl))))
theorem da_hon : ∀ f, f < 4 → ∀ v, v < 4 → bt ((15 : Int32) &&& (((1 : Int32) <<< (nI f &&& 31)) ^^^ (-1))) v = decide (v ≠ f) := by decide +kernel
theorem da_hn2 {p : Int32} {f v : Nat} (hf : f < 4) (hv : v < 4) : bt ((p &&& 15) &&& (((1 : Int32) <<< (nI f &&& 31)) ^^^ (-1))) v = (bt p v && decide (v ≠ f)) := by
  rw [← da_hon f hf v hv, b_and, b_and, b_and, Bool.and_assoc]
/-! admitPending -/
def dg_dn (es : Nat → Int64) (g : Int64) : Prop := ∀ i, da_b g i = true → ∀ j, da_b (es i) j = true → j < i
theorem xa_ap24 {post : Int32 → SX → Prop} {v : Nat} (hv : v < 4) {g a0 : Int64} (hd : dg_dn es g) (hA : ∀ i, da_b a0 i = true → da_b g i = true ∧ ∀ j, da_b (es i) j = true → da_b a0 j = true) : ∀ (n i : Nat) (a : Int64), 64 < n + i → i ≤ 64 →
    (∀ j, j < i → (da_b a j = true ↔ (da_b g j = true ∧ ∀ q, da_b (es j) q = true → da_b a q = true))) → (∀ j, i ≤ j → da_b a j = da_b a0 j) → (∀ j, da_b a0 j = true → da_b a j = true) →
    (∀ a, dg_A es g a → (∀ j, da_b a0 j = true → da_b a j = true) → post (nI (da_n (fun k => da_b a k && !da_b a0 k) 64)) (nI nw, nI (2 * nw), nI nf, nI ns, ex, ce, cm, es, sg, pa, sp, cr, rc, vp_updL ad v a, lw, cw, dl, sl, sq)) →
    wX_admitPending_24 post (nI v) (g &&& (a0 ^^^ (-1))) (nI nw) (nI (2 * nw)) (nI nf) (nI ns) ex ce n (nI (da_n (fun k => da_b a k && !da_b a0 k) i)) (nI i) cm es sg pa sp cr rc (vp_updL ad v a) lw cw dl sl sq := by
  intro n
  induction n with
  | zero => intro i a h1 h2; omega
  | succ n ih =>
    intro i a hn hi h1 h2 h3 hp
    have hin : vp_in (nI v) 4 := vp_in_nI hv (by omega)
    have ec : (nI v).toNatClampNeg = v := nI_clamp (by omega)
    have nof : (da_b a i = true ↔ (da_b g i = true ∧ ∀ q, da_b (es i) q = true → da_b a q = true)) → wX_admitPending_24 post (nI v) (g &&& (a0 ^^^ (-1))) (nI nw) (nI (2 * nw)) (nI nf) (nI ns) ex ce n (nI (da_n (fun k => da_b a k && !da_b a0 k) i)) (nI (i + 1)) cm es sg pa sp cr rc (vp_updL ad v a) lw cw dl sl sq ∨ 64 ≤ i ∨ (da_b a i && !da_b a0 i) = true := by
      intro hi'
      by_cases h64 : 64 ≤ i
      · exact Or.inr (Or.inl h64)
      · cases e : (da_b a i && !da_b a0 i)
        · left
          have := ih (i + 1) a (by omega) (by omega) (fun j hj => by
            by_cases z : j = i
            · subst z; exact hi'
            · exact h1 j (by omega)) (fun j hj => h2 j (by omega)) h3 hp
          rw [da_nf (f := fun k => da_b a k && !da_b a0 k) e] at this
          exact this
        · exact Or.inr (Or.inr rfl)
    refine pk_le 64 i (fun h => ?_) (fun h => xa_has (by omega) (fun hb => ?_) (fun hb => ?_))
    · have e : i = 64 := by omega
      subst e
      refine hp a (fun i => ?_) h3
      rcases Nat.lt_or_ge i 64 with z | z
      · exact h1 i z
      · rw [da_big z, da_big z]
        exact ⟨fun q => absurd q (by decide), fun q => absurd q.1 (by decide)⟩
    · rw [da_andn, Bool.and_eq_true, Bool.not_eq_true'] at hb
      have ai : da_b a i = false := by rw [h2 i (Nat.le_refl _)]; exact hb.2
      refine And.intro (vp_in_nI (by omega) (by omega)) (And.intro hin ?_)
      rw [ec, nI_clamp (show i < 2 ^ 31 by omega), pk_uLs]
      refine br_c (fun z => And.intro hin (And.intro hin (nm_r (e' := vp_updL ad v (a ||| ((1 : Int64) <<< ((nI i).toInt64 &&& 63)))) ?_ ?_))) (fun z => nm_r (nI_1 i) ?_)
      · funext j
        by_cases e : j = v
        · subst e; rw [pk_uLs, pk_uLs]
        · rw [pk_uLn e, pk_uLn e, pk_uLn e]
      · have sb := da_sub.mp z
        have ob : ∀ j, da_b (a ||| ((1 : Int64) <<< ((nI i).toInt64 &&& 63))) j = (da_b a j || decide (j = i)) := fun j => by rw [da_or, da_one (by omega)]
        have step := ih (i + 1) (a ||| ((1 : Int64) <<< ((nI i).toInt64 &&& 63))) (by omega) (by omega) (fun j hj => by
          rw [ob]
          by_cases e : j = i
          · subst e
            rw [decide_eq_true rfl, Bool.or_true]
            exact ⟨fun _ => ⟨hb.1, fun q hq => by rw [ob, sb q hq, Bool.true_or]⟩, fun _ => rfl⟩
          · rw [decide_eq_false e, Bool.or_false, h1 j (by omega)]
            constructor
            · rintro ⟨k1, k2⟩
              exact ⟨k1, fun q hq => by rw [ob, k2 q hq, Bool.true_or]⟩
            · rintro ⟨k1, k2⟩
              refine ⟨k1, fun q hq => ?_⟩
              have := k2 q hq
              have lt := hd j k1 q hq
              rw [ob, decide_eq_false (by omega), Bool.or_false] at this
              exact this) (fun j hj => by rw [ob, decide_eq_false (by omega), Bool.or_false]; exact h2 j (by omega)) (fun j hj => by rw [ob, h3 j hj, Bool.true_or]) hp
        have cn : da_n (fun k => da_b (a ||| ((1 : Int64) <<< ((nI i).toInt64 &&& 63))) k && !da_b a0 k) (i + 1) = da_n (fun k => da_b a k && !da_b a0 k) i + 1 := by
          rw [da_nt]
          · congr 1
            apply da_n_congr
            intro k hk
            rw [ob, decide_eq_false (by omega), Bool.or_false]
          · rw [ob, decide_eq_true rfl, Bool.or_true, hb.2]; rfl
        rw [cn] at step
        exact nm_r (nI_1 _) (nm_r (nI_1 i) step)
      · rcases nof ⟨fun q => by rw [ai] at q; exact absurd q (by decide), fun q => absurd (da_sub.mpr q.2) z⟩ with k | k | k
        · exact k
        · omega
        · rw [ai, Bool.false_and] at k; exact absurd k (by decide)
    · refine nm_r (nI_1 i) ?_
      rw [da_andn] at hb
      have hi' : da_b a i = true ↔ (da_b g i = true ∧ ∀ q, da_b (es i) q = true → da_b a q = true) := by
        rw [h2 i (Nat.le_refl _)]
        cases e0 : da_b a0 i
        · rw [e0] at hb
          constructor
          · intro q; exact absurd q (by decide)
          · rintro ⟨q, _⟩
            rw [q] at hb; exact absurd hb (by decide)
        · have z := hA i e0
          exact ⟨fun _ => ⟨z.1, fun q hq => h3 q (z.2 q hq)⟩, fun _ => rfl⟩
      rcases nof hi' with k | k | k
      · exact k
      · omega
      · rw [h2 i (Nat.le_refl _)] at k
        cases e0 : da_b a0 i
        · rw [e0] at k; exact absurd k (by decide)
        · rw [e0] at k; exact absurd k (by decide)
theorem xa_ap {post : Int32 → SX → Prop} {v : Nat} (hv : v < 4) (hd : dg_dn es (rc v)) (hA : ∀ i, da_b (ad v) i = true → da_b (rc v) i = true ∧ ∀ j, da_b (es i) j = true → da_b (ad v) j = true)
    (h : ∀ a, dg_A es (rc v) a → (∀ j, da_b (ad v) j = true → da_b a j = true) → post (nI (da_n (fun k => da_b a k && !da_b (ad v) k) 64)) (nI nw, nI (2 * nw), nI nf, nI ns, ex, ce, cm, es, sg, pa, sp, cr, rc, vp_updL ad v a, lw, cw, dl, sl, sq)) : wpX_admitPending post (nI nw, nI (2 * nw), nI nf, nI ns, ex, ce, cm, es, sg, pa, sp, cr, rc, ad, lw, cw, dl, sl, sq) (nI v) := by
  have hin : vp_in (nI v) 4 := vp_in_nI hv (by omega)
  have ec : (nI v).toNatClampNeg = v := nI_clamp (by omega)
  have ea : vp_updL ad v (ad v) = ad := by
    funext j
    by_cases e : j = v
    · subst e; exact pk_uLs
    · exact pk_uLn e
  refine And.intro hin (And.intro hin (nm_r (e' := rc v &&& (ad v ^^^ (-1))) (by rw [ec]) (Exists.intro 65 ?_)))
  have := xa_ap24 (post := post) (nw := nw) (nf := nf) (ns := ns) (ex := ex) (ce := ce) (cm := cm) (sg := sg) (pa := pa) (sp := sp) (cr := cr) (rc := rc) (ad := ad) (lw := lw) (cw := cw) (dl := dl) (sl := sl) (sq := sq) hv hd hA 65 0 (ad v) (by omega) (by omega) (fun j hj => absurd hj (by omega)) (fun j _ => rfl) (fun j hj => hj) h
  rw [ea] at this
  exact this
end XW
end
section
/-! X: signing, certifying -/
theorem da_m8 : ∀ i, i < 64 → nI i &&& (-8) = nI (8 * (i / 8)) := by decide +kernel
/-- an honest v may sign i -/
def dg_ok (es : Nat → Int64) (sg : Nat → Int32) (a : Int64) (v i : Nat) : Prop :=
  bt (sg (i ^^^ 1)) v = false ∧ (∀ j, da_b (es i) j = true → da_b a j = true ∧ j < 8 * (i / 8)) ∧ (8 ≤ i → 3 ≤ da_n (fun k => da_b (es i) (8 * (i / 8) - 8 + k)) 8)
section XS
variable {nw nf ns : Nat} {ex ce : Int64} {cm : Nat → Int32} {es : Nat → Int64} {sg : Nat → Int32} {pa sp : Nat → Int64} {cr : Nat → Int32} {rc ad : Nat → Int64} {lw cw : Nat → Int32} {dl : Nat → Int64} {sl sq : Nat → Int32}
theorem xs_acc {A B : Prop} {v i : Nat} (hv : v < 4) (hi : i < 64) (h1 : dg_ok es sg (ad v) v i → B) (h0 : ¬ dg_ok es sg (ad v) v i → A) : wpX_acceptable (fun r => (r = 0 → A) ∧ (¬ r = 0 → B)) (nI nw, nI (2 * nw), nI nf, nI ns, ex, ce, cm, es, sg, pa, sp, cr, rc, ad, lw, cw, dl, sl, sq) (nI v) (nI i) := by
  have e1 : nI i ^^^ 1 = nI (i ^^^ 1) := nx_xor i 1
  have X1 := da_x1 i hi
  have ec1 : (nI (i ^^^ 1)).toNatClampNeg = i ^^^ 1 := nI_clamp (by omega)
  have ecv : (nI v).toNatClampNeg = v := nI_clamp (by omega)
  have eci : (nI i).toNatClampNeg = i := nI_clamp (by omega)
  have hb : 8 * (i / 8) < 64 := by omega
  have m : ∀ q, da_b (ad v &&& (((1 : Int64) <<< ((nI (8 * (i / 8))).toInt64 &&& 63)) - 1)) q = true ↔ (da_b (ad v) q = true ∧ q < 8 * (i / 8)) := fun q => by
    rw [da_and, da_low hb, Bool.and_eq_true, decide_eq_true_eq]
  unfold wpX_acceptable
  dsimp only
  rw [e1, ec1, ecv, eci]
  refine And.intro (vp_in_nI X1.1 (by omega)) (xa_i32 (by omega) (fun hb => br_t rfl (h0 (fun z => ?_))) (fun hb1 => nm_r (da_m8 i hi) (And.intro (vp_in_nI hv (by omega)) (nm_e (And.intro (vp_in_nI hi (by omega)) (nm_e (br_c (fun z => ?_) (fun z => br_t rfl (h0 (fun y => z ?_))))))))))
  · rw [z.1] at hb; exact absurd hb (by decide)
  · have z1 : ∀ j, da_b (es i) j = true → da_b (ad v) j = true ∧ j < 8 * (i / 8) := fun j hj => (m j).mp (da_sub.mp z j hj)
    refine pk_eq (8 * (i / 8)) 0 (fun e => br_f (by decide) (h1 ⟨hb1, z1, fun h => by omega⟩)) (fun e => ?_)
    have e8 : nI (8 * (i / 8)) - 8 = nI (8 * (i / 8) - 8) := pk_sub (b := 8) (by omega)
    rw [e8]
    apply xa_cnt
    have ef : da_n (da_b ((es i).toUInt64 >>> ((nI (8 * (i / 8) - 8)).toInt64.toUInt64 &&& Int64.toUInt64 63)).toInt64) 8 = da_n (fun k => da_b (es i) (8 * (i / 8) - 8 + k)) 8 := da_n_congr 8 (fun k _ => da_shr (by omega) _ _)
    rw [ef]
    have le := da_n_le (fun k => da_b (es i) (8 * (i / 8) - 8 + k)) 8
    exact pk_lt _ 3 (fun h => br_t rfl (h0 (fun y => by have := y.2.2 (by omega); omega))) (fun h => br_f (by decide) (h1 ⟨hb1, z1, fun _ => h⟩))
  · exact da_sub.mpr (fun j hj => (m j).mpr (y.2.1 j hj))
theorem xs_cert15 {post : SX → Prop} {i : Nat} (hi : i < 64) : ∀ (n k : Nat) (P Q : Int64), 64 < n + k → k ≤ 8 * (i / 8) →
    (∀ j, da_b P j = true ↔ (j = i ∨ ∃ q, q < k ∧ da_b (es i) q = true ∧ da_b (pa q) j = true)) →
    (∀ j, da_b Q j = true ↔ (j = i ∨ ∃ q, q < k ∧ 8 * (i / 8) ≤ q + 8 ∧ da_b (es i) q = true ∧ da_b (sp q) j = true)) →
    (∀ P Q, (∀ j, da_b P j = true ↔ (j = i ∨ ∃ q, q < 8 * (i / 8) ∧ da_b (es i) q = true ∧ da_b (pa q) j = true)) →
      (∀ j, da_b Q j = true ↔ (j = i ∨ ∃ q, q < 8 * (i / 8) ∧ 8 * (i / 8) ≤ q + 8 ∧ da_b (es i) q = true ∧ da_b (sp q) j = true)) →
      post (nI nw, nI (2 * nw), nI nf, nI ns, ex, ce ||| ((1 : Int64) <<< ((nI i).toInt64 &&& 63)), cm, es, sg, vp_updL pa i P, vp_updL sp i Q, cr, rc, ad, lw, cw, dl, sl, sq)) →
    wX_certify_15 post (nI i) (nI (8 * (i / 8))) (nI nw) (nI (2 * nw)) (nI nf) (nI ns) ex ce cm es sg pa sp cr rc ad lw cw dl sl sq n P Q (nI k) := by
  have eci : (nI i).toNatClampNeg = i := nI_clamp (by omega)
  have hii : vp_in (nI i) 64 := vp_in_nI hi (by omega)
  intro n
  induction n with
  | zero => intro k P Q h1 h2; omega
  | succ n ih =>
    intro k P Q hn hk hP hQ hp
    have eck : (nI k).toNatClampNeg = k := nI_clamp (by omega)
    have hik : vp_in (nI k) 64 := vp_in_nI (by omega) (by omega)
    rw [wX_certify_15]
    refine pk_le (8 * (i / 8)) k (fun h => ?_) (fun h => And.intro hii ?_)
    · have e : k = 8 * (i / 8) := by omega
      rw [eci]
      have := hp P Q (fun j => by rw [hP j, e]) (fun j => by rw [hQ j, e])
      exact nm_e (And.intro hii (nm_e (And.intro hii (nm_e this))))
    · rw [eci, eck]
      have e8 : 8 ≤ 8 * (i / 8) := by omega
      have eb : nI (8 * (i / 8)) - 8 = nI (8 * (i / 8) - 8) := pk_sub (b := 8) e8
      refine xa_has (by omega) (fun hb => And.intro hik (nm_e ?_)) (fun hb => nm_r (nI_1 k) (ih (k + 1) P Q (by omega) (by omega) ?_ ?_ hp))
      · have hP' : ∀ j, da_b (P ||| pa k) j = true ↔ (j = i ∨ ∃ q, q < k + 1 ∧ da_b (es i) q = true ∧ da_b (pa q) j = true) := by
          intro j
          rw [da_or, Bool.or_eq_true, hP j]
          constructor
          · rintro ((z | ⟨q, a, b⟩) | z)
            · exact Or.inl z
            · exact Or.inr ⟨q, by omega, b⟩
            · exact Or.inr ⟨k, by omega, hb, z⟩
          · rintro (z | ⟨q, a, b, c⟩)
            · exact Or.inl (Or.inl z)
            · by_cases e : q = k
              · subst e; exact Or.inr c
              · exact Or.inl (Or.inr ⟨q, by omega, b, c⟩)
        rw [eb]
        refine pk_lt k (8 * (i / 8) - 8) (fun h8 => nm_r (nI_1 k) (ih (k + 1) _ Q (by omega) (by omega) hP' ?_ hp)) (fun h8 => And.intro hik (nm_e (nm_r (nI_1 k) (ih (k + 1) _ _ (by omega) (by omega) hP' ?_ hp))))
        · intro j
          rw [hQ j]
          constructor
          · rintro (z | ⟨q, a, b⟩)
            · exact Or.inl z
            · exact Or.inr ⟨q, by omega, b⟩
          · rintro (z | ⟨q, a, a2, b, c⟩)
            · exact Or.inl z
            · by_cases e : q = k
              · omega
              · exact Or.inr ⟨q, by omega, a2, b, c⟩
        · intro j
          rw [da_or, Bool.or_eq_true, hQ j]
          constructor
          · rintro ((z | ⟨q, a, b⟩) | z)
            · exact Or.inl z
            · exact Or.inr ⟨q, by omega, b⟩
            · exact Or.inr ⟨k, by omega, by omega, hb, z⟩
          · rintro (z | ⟨q, a, a2, b, c⟩)
            · exact Or.inl (Or.inl z)
            · by_cases e : q = k
              · subst e; exact Or.inr c
              · exact Or.inl (Or.inr ⟨q, by omega, a2, b, c⟩)
      · intro j
        rw [hP j]
        constructor
        · rintro (z | ⟨q, a, b⟩)
          · exact Or.inl z
          · exact Or.inr ⟨q, by omega, b⟩
        · rintro (z | ⟨q, a, b, c⟩)
          · exact Or.inl z
          · by_cases e : q = k
            · subst e; rw [hb] at b; exact absurd b (by decide)
            · exact Or.inr ⟨q, by omega, b, c⟩
      · intro j
        rw [hQ j]
        constructor
        · rintro (z | ⟨q, a, b⟩)
          · exact Or.inl z
          · exact Or.inr ⟨q, by omega, b⟩
        · rintro (z | ⟨q, a, a2, b, c⟩)
          · exact Or.inl z
          · by_cases e : q = k
            · subst e; rw [hb] at b; exact absurd b (by decide)
            · exact Or.inr ⟨q, by omega, a2, b, c⟩
theorem xs_cert {post : SX → Prop} {i : Nat} (hi : i < 64)
    (hp : ∀ P Q, (∀ j, da_b P j = true ↔ (j = i ∨ ∃ q, q < 8 * (i / 8) ∧ da_b (es i) q = true ∧ da_b (pa q) j = true)) →
      (∀ j, da_b Q j = true ↔ (j = i ∨ ∃ q, q < 8 * (i / 8) ∧ 8 * (i / 8) ≤ q + 8 ∧ da_b (es i) q = true ∧ da_b (sp q) j = true)) →
      post (nI nw, nI (2 * nw), nI nf, nI ns, ex, ce ||| ((1 : Int64) <<< ((nI i).toInt64 &&& 63)), cm, es, sg, vp_updL pa i P, vp_updL sp i Q, cr, rc, ad, lw, cw, dl, sl, sq)) : wpX_certify post (nI nw, nI (2 * nw), nI nf, nI ns, ex, ce, cm, es, sg, pa, sp, cr, rc, ad, lw, cw, dl, sl, sq) (nI i) := by
  have o : ∀ j, da_b ((1 : Int64) <<< ((nI i).toInt64 &&& 63)) j = true ↔ j = i := fun j => by rw [da_one hi, decide_eq_true_eq]
  refine nm_r (da_m8 i hi) (nm_e (Exists.intro 65 (xs_cert15 hi 65 0 _ _ (by omega) (by omega) ?_ ?_ hp)))
  · intro j
    rw [o]
    exact ⟨Or.inl, fun z => z.elim id (fun ⟨q, a, _⟩ => absurd a (by omega))⟩
  · intro j
    rw [o]
    exact ⟨Or.inl, fun z => z.elim id (fun ⟨q, a, _⟩ => absurd a (by omega))⟩
/-- what a signature of v at i makes of certified, pasts, strongPasts -/
def dg_sgn (ce ce' : Int64) (es : Nat → Int64) (sg : Nat → Int32) (pa sp pa' sp' : Nat → Int64) (v i : Nat) : Prop :=
  (∀ j, da_b ce' j = true ↔ (da_b ce j = true ∨ (j = i ∧ 3 ≤ da_n (bt (sg i ||| ((1 : Int32) <<< (nI v &&& 31)))) 4))) ∧
  (∀ j, j ≠ i → pa' j = pa j ∧ sp' j = sp j) ∧ (da_b ce i = true → pa' i = pa i ∧ sp' i = sp i) ∧ (da_b ce' i = false → pa' i = pa i) ∧
  (da_b ce i = false → da_b ce' i = true → dg_Acc ce es i → dg_Pa es pa' i ∧ dg_Sp es sp' i)
theorem xs_48 {post : Int32 → SX → Prop} {v i : Nat} (D : dg_D nf ex ce es sg pa sp) (hv : v < 4) (hi : i < 64)
    (h : ∀ ce' pa' sp', dg_sgn ce ce' es sg pa sp pa' sp' v i → post 1 (nI nw, nI (2 * nw), nI nf, nI ns, ex, ce', cm, es, upd sg i (sg i ||| ((1 : Int32) <<< (nI v &&& 31))), pa', sp', cr, rc, ad, lw, cw, dl, sl, sq)) :
    wX_signOne_48 post (nI v) (nI i) (nI nw) (nI (2 * nw)) (nI nf) (nI ns) ex ce cm es sg pa sp cr rc ad lw cw dl sl sq := by
  have eci : (nI i).toNatClampNeg = i := nI_clamp (by omega)
  have hii : vp_in (nI i) 64 := vp_in_nI hi (by omega)
  have nb : ∀ k, bt (sg i ||| ((1 : Int32) <<< (nI v &&& 31))) k = (bt (sg i) k || decide (k = v)) := fun k => by rw [b_or, da_o32 (by omega)]
  have s4 : da_S4 (sg i ||| ((1 : Int32) <<< (nI v &&& 31))) := fun k hk => by rw [nb, dg_s4 D hi k hk, decide_eq_false (by omega)]; rfl
  have cnt : da_n (da_b (sg i ||| ((1 : Int32) <<< (nI v &&& 31))).toInt64) 8 = da_n (bt (sg i ||| ((1 : Int32) <<< (nI v &&& 31)))) 4 := by
    rw [da_n_congr 8 (fun k _ => da_i4 s4 k)]
    exact da_n_cut s4 (by omega)
  have le := da_n_le (bt (sg i ||| ((1 : Int32) <<< (nI v &&& 31)))) 4
  unfold wX_signOne_48
  rw [eci]
  refine And.intro hii (And.intro hii (nm_e ?_))
  rw [pk_us]
  refine xa_has hi (fun hb => ?_) (fun hb => And.intro hii (xa_cnt ?_))
  · refine h ce pa sp ⟨fun j => ⟨Or.inl, fun z => z.elim id (fun y => by rw [y.1]; exact hb)⟩, fun _ _ => ⟨rfl, rfl⟩, fun _ => ⟨rfl, rfl⟩, fun _ => rfl, fun z => ?_⟩
    rw [hb] at z; exact absurd z (by decide)
  · rw [cnt]
    refine pk_lt _ 3 (fun lt => ?_) (fun ge => xs_cert hi (fun P Q hP hQ => ?_))
    · refine h ce pa sp ⟨fun j => ⟨Or.inl, fun z => z.elim id (fun y => absurd y.2 (by omega))⟩, fun _ _ => ⟨rfl, rfl⟩, fun _ => ⟨rfl, rfl⟩, fun _ => rfl, fun _ z => ?_⟩
      rw [hb] at z; exact absurd z (by decide)
    · have ob : ∀ j, da_b (ce ||| ((1 : Int64) <<< ((nI i).toInt64 &&& 63))) j = true ↔ (da_b ce j = true ∨ j = i) := fun j => by rw [da_or, da_one hi, Bool.or_eq_true, decide_eq_true_eq]
      refine h _ _ _ ⟨fun j => ?_, fun j hj => ⟨pk_uLn hj, pk_uLn hj⟩, fun z => ?_, fun z => ?_, fun _ _ A => ⟨?_, ?_⟩⟩
      · rw [ob]
        exact ⟨fun z => z.elim Or.inl (fun y => Or.inr ⟨y, ge⟩), fun z => z.elim Or.inl (fun y => Or.inr y.1)⟩
      · rw [hb] at z; exact absurd z (by decide)
      · rw [(ob i).mpr (Or.inr rfl)] at z; exact absurd z (by decide)
      · intro j
        rw [pk_uLs, hP j]
        constructor
        · rintro (z | ⟨q, a, b, c⟩)
          · exact Or.inl z
          · exact Or.inr ⟨q, b, by rw [pk_uLn (by omega)]; exact c⟩
        · rintro (z | ⟨q, b, c⟩)
          · exact Or.inl z
          · have lt := (A.1 q b).1
            rw [pk_uLn (by omega)] at c
            exact Or.inr ⟨q, by omega, b, c⟩
      · intro j
        rw [pk_uLs, hQ j]
        constructor
        · rintro (z | ⟨q, a, a2, b, c⟩)
          · exact Or.inl z
          · exact Or.inr ⟨q, b, by omega, by rw [pk_uLn (by omega)]; exact c⟩
        · rintro (z | ⟨q, b, b2, c⟩)
          · exact Or.inl z
          · rw [pk_uLn (by omega)] at c
            exact Or.inr ⟨q, by omega, by omega, b, c⟩
theorem xs_one {post : Int32 → SX → Prop} {v i : Nat} (D : dg_D nf ex ce es sg pa sp) (hv : v < 4) (hf : nf < 4) (hi : i < 64)
    (h0 : (da_b ex i = false ∨ bt (sg i) v = true ∨ (v ≠ nf ∧ ¬ dg_ok es sg (ad v) v i)) → post 0 (nI nw, nI (2 * nw), nI nf, nI ns, ex, ce, cm, es, sg, pa, sp, cr, rc, ad, lw, cw, dl, sl, sq))
    (h1 : da_b ex i = true → bt (sg i) v = false → (v ≠ nf → dg_ok es sg (ad v) v i) → ∀ ce' pa' sp', dg_sgn ce ce' es sg pa sp pa' sp' v i → post 1 (nI nw, nI (2 * nw), nI nf, nI ns, ex, ce', cm, es, upd sg i (sg i ||| ((1 : Int32) <<< (nI v &&& 31))), pa', sp', cr, rc, ad, lw, cw, dl, sl, sq)) :
    wpX_signOne post (nI nw, nI (2 * nw), nI nf, nI ns, ex, ce, cm, es, sg, pa, sp, cr, rc, ad, lw, cw, dl, sl, sq) (nI v) (nI i) := by
  have eci : (nI i).toNatClampNeg = i := nI_clamp (by omega)
  have hii : vp_in (nI i) 64 := vp_in_nI hi (by omega)
  unfold wpX_signOne
  refine xa_has hi (fun hb => And.intro hii ?_) (fun hb => h0 (Or.inl hb))
  rw [eci]
  refine xa_i32 (by omega) (fun hs => h0 (Or.inr (Or.inl hs))) (fun hs => ?_)
  refine pk_eq v nf (fun e => xs_48 D hv hi (h1 hb hs (fun z => absurd e z))) (fun e => xs_acc hv hi (fun z => xs_48 D hv hi (h1 hb hs (fun _ => z))) (fun z => h0 (Or.inr (Or.inr ⟨e, z⟩))))
end XS
end
section
/-! X: committing -/
theorem du_u {f : Nat → Int32} {k : Nat} {a b : Int32} : upd (upd f k a) k b = upd f k b := by
  funext j
  by_cases e : j = k
  · subst e; rw [pk_us, pk_us]
  · rw [pk_un e, pk_un e, pk_un e]
theorem du_s {f : Nat → Int32} {k : Nat} : upd f k (f k) = f := by
  funext j
  by_cases e : j = k
  · subst e; exact pk_us
  · exact pk_un e
theorem du_uL {f : Nat → Int64} {k : Nat} {a b : Int64} : vp_updL (vp_updL f k a) k b = vp_updL f k b := by
  funext j
  by_cases e : j = k
  · subst e; rw [pk_uLs, pk_uLs]
  · rw [pk_uLn e, pk_uLn e, pk_uLn e]
theorem du_sL {f : Nat → Int64} {k : Nat} : vp_updL f k (f k) = f := by
  funext j
  by_cases e : j = k
  · subst e; exact pk_uLs
  · exact pk_uLn e
theorem da_ldX : ∀ w, w < 5 → ∀ s, s < 4 → 1 ≤ w → 16 * (nI w - 1) + 2 * (((nI s + nI w) - 1) &&& 3) = nI (dg_i s w) := by decide +kernel
theorem da_ldY : ∀ w, w < 5 → ∀ s, s < 4 → 1 ≤ w → 16 * (nI w - 1) + 2 * (((nI s + nI w) - 1) - ((nI s + nI w) - 1) / 4 * 4) = nI (dg_i s w) := by decide +kernel
theorem da_spb : ∀ w, w < 5 → 1 ≤ w → 8 * ((2 * nI w) - 1) = nI (8 * (2 * w - 1)) := by decide +kernel
theorem dg_i64 {s w : Nat} (h1 : 1 ≤ w) (h4 : w ≤ 4) : dg_i s w + 1 < 64 := by unfold dg_i; omega
section XC
variable {nw nf ns : Nat} {ex ce : Int64} {cm : Nat → Int32} {es : Nat → Int64} {sg : Nat → Int32} {pa sp : Nat → Int64} {cr : Nat → Int32} {rc ad : Nat → Int64} {lw cw : Nat → Int32} {dl : Nat → Int64} {sl sq : Nat → Int32}
theorem xc_lead {post : Int32 → Prop} {w : Nat} (hs : ns < 4) (hw : 1 ≤ w) (hw4 : w ≤ 4) (h1 : dg_l ns ce w < 64 → post (nI (dg_l ns ce w))) (h0 : dg_l ns ce w = 64 → post (-1)) : wpX_leaderOf post (nI nw, nI (2 * nw), nI nf, nI ns, ex, ce, cm, es, sg, pa, sp, cr, rc, ad, lw, cw, dl, sl, sq) (nI w) := by
  have i64 := dg_i64 (s := ns) hw hw4
  unfold wpX_leaderOf
  refine nm_e (nm_r (da_ldX w (by omega) ns hs hw) ?_)
  rw [nI_1]
  refine xa_has (by omega) (fun hb => ?_) (fun hb => xa_has (by omega) (fun hc => ?_) (fun hc => ?_))
  · have e : dg_l ns ce w = dg_i ns w := if_pos hb
    rw [e] at h1
    exact h1 (by omega)
  · have e : dg_l ns ce w = dg_i ns w + 1 := by unfold dg_l; rw [if_neg (by rw [hb]; decide), if_pos hc]
    rw [e] at h1
    exact h1 (by omega)
  · exact h0 (by unfold dg_l; rw [if_neg (by rw [hb]; decide), if_neg (by rw [hc]; decide)])
theorem xc_sup29 {A B : Prop} {v x b : Nat} (hv : v < 4) (hx : x < 64) (hb : b + 8 ≤ 64) (h1 : 2 ≤ da_n (fun k => da_b (ad v) (b + k) && da_b (es (b + k)) x) 8 → B) (h0 : ¬ 2 ≤ da_n (fun k => da_b (ad v) (b + k) && da_b (es (b + k)) x) 8 → A) :
    ∀ (n k : Nat), 8 < n + k → k ≤ 8 → wX_supported_29 (fun r => (r = 0 → A) ∧ (¬ r = 0 → B)) (nI v) (nI x) (nI b) (nI nw) (nI (2 * nw)) (nI nf) (nI ns) ex ce cm es sg pa sp cr rc ad lw cw dl sl sq n (nI (da_n (fun k => da_b (ad v) (b + k) && da_b (es (b + k)) x) k)) (nI (b + k)) := by
  intro n
  induction n with
  | zero => intro k h1 h2; omega
  | succ n ih =>
    intro k hn hk
    have ecv : (nI v).toNatClampNeg = v := nI_clamp (by omega)
    have eck : (nI (b + k)).toNatClampNeg = b + k := nI_clamp (by omega)
    have le := da_n_le (fun k => da_b (ad v) (b + k) && da_b (es (b + k)) x) k
    rw [wX_supported_29]
    refine pk_le (b + 8) (b + k) (fun h => ?_) (fun h => And.intro (vp_in_nI hv (by omega)) ?_) (hx := nI_add b 8)
    · have e : k = 8 := by omega
      subst e
      exact pk_lt _ 2 (fun z => br_t rfl (h0 (by omega))) (fun z => br_f (by decide) (h1 z))
    · rw [ecv]
      have nx : (da_b (ad v) (b + k) && da_b (es (b + k)) x) = false → wX_supported_29 (fun r => (r = 0 → A) ∧ (¬ r = 0 → B)) (nI v) (nI x) (nI b) (nI nw) (nI (2 * nw)) (nI nf) (nI ns) ex ce cm es sg pa sp cr rc ad lw cw dl sl sq n (nI (da_n (fun k => da_b (ad v) (b + k) && da_b (es (b + k)) x) k)) (nI (b + k + 1)) := by
        intro z
        have := ih (k + 1) (by omega) (by omega)
        rw [da_nf (f := fun k => da_b (ad v) (b + k) && da_b (es (b + k)) x) z, ← Nat.add_assoc] at this
        exact this
      refine xa_has (by omega) (fun ha => And.intro (vp_in_nI (by omega) (by omega)) ?_) (fun ha => nm_r (nI_1 _) (nx (by rw [ha]; rfl)))
      rw [eck]
      refine xa_has hx (fun hc => nm_r (e' := nI (da_n (fun k => da_b (ad v) (b + k) && da_b (es (b + k)) x) (k + 1))) ?_ (nm_r (nI_1 _) ?_)) (fun hc => nm_r (nI_1 _) (nx (by rw [hc, Bool.and_false])))
      · rw [nI_1, da_nt]; rw [ha, hc]; rfl
      · have := ih (k + 1) (by omega) (by omega)
        rw [← Nat.add_assoc] at this
        exact this
theorem xc_sup {A B : Prop} {v w : Nat} (hs : ns < 4) (hv : v < 4) (hw : 1 ≤ w) (hw4 : w ≤ 4) (h1 : dg_u ns ce es (ad v) w = true → B) (h0 : dg_u ns ce es (ad v) w = false → A) : wpX_supported (fun r => (r = 0 → A) ∧ (¬ r = 0 → B)) (nI nw, nI (2 * nw), nI nf, nI ns, ex, ce, cm, es, sg, pa, sp, cr, rc, ad, lw, cw, dl, sl, sq) (nI v) (nI w) := by
  unfold wpX_supported
  refine xc_lead hs hw hw4 (fun hl => br_t (nI_pos' (by omega)) (nm_r (da_spb w (by omega) hw) (Exists.intro 9 (xc_sup29 hv hl (by omega) (fun z => h1 ?_) (fun z => h0 ?_) 9 0 (by omega) (by omega))))) (fun hl => br_f (by decide) (br_t rfl (h0 ?_)))
  · unfold dg_u
    rw [decide_eq_true hl, Bool.true_and, decide_eq_true_eq]
    exact z
  · unfold dg_u
    rw [decide_eq_true hl, Bool.true_and, decide_eq_false_iff_not]
    exact z
  · unfold dg_u
    rw [decide_eq_false (by omega), Bool.false_and]
theorem xc_gr5 {post : Int32 → Prop} {v t : Nat} (hs : ns < 4) (hv : v < 4) (ht : t ≤ 4) (hl : lw v = nI t) : ∀ (n w : Nat), w < n → w ≤ 4 → post (nI (dg_g (dg_u ns ce es (ad v)) t w)) → wX_greatestNewSupported_5 post (nI v) (nI nw) (nI (2 * nw)) (nI nf) (nI ns) ex ce cm es sg pa sp cr rc ad lw cw dl sl sq n (nI w) := by
  intro n
  induction n with
  | zero => intro w h; omega
  | succ n ih =>
    intro w hn hw hp
    have ecv : (nI v).toNatClampNeg = v := nI_clamp (by omega)
    rw [wX_greatestNewSupported_5]
    refine And.intro (vp_in_nI hv (by omega)) ?_
    rw [ecv, hl]
    refine pk_le w t (fun h => ?_) (fun h => ?_)
    · rw [dg_g_lo w h] at hp; exact hp
    · obtain ⟨q, rfl⟩ : ∃ q, w = q + 1 := ⟨w - 1, by omega⟩
      refine xc_sup hs hv (by omega) hw (fun z => ?_) (fun z => nm_r (pk_m1 q) (ih q (by omega) (by omega) ?_))
      · rw [dg_g_t h z] at hp; exact hp
      · rw [dg_g_f z] at hp; exact hp
theorem xc_link7 {post : SX → Prop} {v t : Nat} (hs : ns < 4) (hv : v < 4) (hl : lw v = nI t) : ∀ (n w : Nat) (r : Int64) (c : Int32), w < n → w ≤ 4 → t ≤ w →
    (∀ c', (∀ k, bt c' k = (bt c k || (decide (t < k) && dg_c (dg_l ns ce) sp w r k))) → post (nI nw, nI (2 * nw), nI nf, nI ns, ex, ce, cm, es, sg, pa, sp, cr, rc, ad, lw, upd cw v c', dl, sl, sq)) → wX_linkChain_7 post (nI v) (nI nw) (nI (2 * nw)) (nI nf) (nI ns) ex ce n r (nI w) cm es sg pa sp cr rc ad lw (upd cw v c) dl sl sq := by
  intro n
  induction n with
  | zero => intro w r c h; omega
  | succ n ih =>
    intro w r c hn hw ht hp
    have ecv : (nI v).toNatClampNeg = v := nI_clamp (by omega)
    have hin : vp_in (nI v) 4 := vp_in_nI hv (by omega)
    rw [wX_linkChain_7]
    refine And.intro hin ?_
    rw [ecv, hl, pk_us]
    refine pk_le w t (fun h => ?_) (fun h => ?_)
    · refine hp c (fun k => ?_)
      have e : w = t := by omega
      subst e
      by_cases hk : w < k
      · rw [dg_c_hi hk, Bool.and_false, Bool.or_false]
      · rw [decide_eq_false hk, Bool.false_and, Bool.or_false]
    · obtain ⟨q, rfl⟩ : ∃ q, w = q + 1 := ⟨w - 1, by omega⟩
      have skip : da_b r (dg_l ns ce (q + 1)) = false → wX_linkChain_7 post (nI v) (nI nw) (nI (2 * nw)) (nI nf) (nI ns) ex ce n r (nI q) cm es sg pa sp cr rc ad lw (upd cw v c) dl sl sq := fun z =>
        ih q r c (by omega) (by omega) (by omega) (fun c' hc' => hp c' (fun k => by rw [dg_c_f z]; exact hc' k))
      refine xc_lead hs (by omega) hw (fun hL => br_f (nI_pos (by omega)) (xa_has hL (fun hb => And.intro hin (And.intro hin (nm_r du_u ?_))) (fun hb => nm_r (pk_m1 q) (skip hb)))) (fun hL => br_t (by decide) (nm_r (pk_m1 q) (skip (da_big (by omega)))))
      refine And.intro (vp_in_nI hL (by omega)) (nm_r (e' := sp (dg_l ns ce (q + 1))) (by rw [nI_clamp (by omega)]) (nm_r (pk_m1 q) (ih q _ _ (by omega) (by omega) (by omega) (fun c' hc' => hp c' (fun k => ?_)))))
      rw [hc' k, dg_c_t hb, b_or, da_o32 (by omega)]
      by_cases e : k = q + 1
      · subst e
        rw [decide_eq_true rfl, decide_eq_true (by omega)]
        simp
      · rw [decide_eq_false e, Bool.or_false, Bool.false_or]
/-- what appending keeps and does: f the fresh set, m places taken before, ids below i done -/
def dg_ah (v m : Nat) (f : Int64) (sq s : Nat → Int32) (i : Nat) : Prop :=
  (∀ p, (p < 64 * v ∨ 64 * v + 64 ≤ p) → s p = sq p) ∧ (∀ p, p < m → s (64 * v + p) = sq (64 * v + p)) ∧ (∀ j, j < i → da_b f j = true → s (64 * v + (m + da_n (da_b f) j)) = nI j)
theorem xc_ah21 {post : SX → Prop} {v m : Nat} {f : Int64} (hv : v < 4) (hm : m + da_n (da_b f) 64 ≤ 64) (hp : ∀ s, dg_ah v m f sq s 64 → post (nI nw, nI (2 * nw), nI nf, nI ns, ex, ce, cm, es, sg, pa, sp, cr, rc, ad, lw, cw, vp_updL dl v (dl v ||| f), upd sl v (nI (m + da_n (da_b f) 64)), s)) :
    ∀ (n i : Nat) (s : Nat → Int32), 64 < n + i → i ≤ 64 → dg_ah v m f sq s i → wX_appendHistory_21 post (nI v) f (nI nw) (nI (2 * nw)) (nI nf) (nI ns) ex ce n (nI i) cm es sg pa sp cr rc ad lw cw dl (upd sl v (nI (m + da_n (da_b f) i))) s := by
  intro n
  induction n with
  | zero => intro i s h1 h2; omega
  | succ n ih =>
    intro i s hn hi hs
    have ecv : (nI v).toNatClampNeg = v := nI_clamp (by omega)
    have hin : vp_in (nI v) 4 := vp_in_nI hv (by omega)
    rw [wX_appendHistory_21]
    dsimp only
    rw [ecv, pk_us]
    refine pk_le 64 i (fun h => And.intro hin (And.intro hin (nm_e ?_))) (fun h => xa_has (by omega) (fun hb => And.intro hin ?_) (fun hb => nm_r (nI_1 i) ?_))
    · have e : i = 64 := by omega
      subst e
      exact hp s hs
    · have lt : da_n (da_b f) i < da_n (da_b f) 64 := da_n_lt (by omega) hb
      have ei : 64 * nI v + nI (m + da_n (da_b f) i) = nI (64 * v + (m + da_n (da_b f) i)) := by
        rw [show (64 : Int32) = nI 64 from rfl, pk_mul, nI_add]
      rw [ei, nI_clamp (show 64 * v + (m + da_n (da_b f) i) < 2 ^ 31 by omega)]
      refine pk_le 64 (m + da_n (da_b f) i) (fun h2 => absurd h2 (by omega)) (fun h2 => And.intro hin (And.intro (vp_in_nI (by omega) (by omega)) (nm_e (And.intro hin (And.intro hin (nm_r (e' := upd sl v (nI (m + da_n (da_b f) (i + 1)))) ?_ (nm_r (nI_1 i) (ih (i + 1) _ (by omega) (by omega) ?_))))))))
      · rw [du_u, nI_1, da_nt hb, Nat.add_assoc]
      · obtain ⟨a, b, c⟩ := hs
        refine ⟨fun p hp => ?_, fun p hp => ?_, fun j hj hf => ?_⟩
        · rw [pk_un (by omega)]; exact a p hp
        · rw [pk_un (by omega)]; exact b p hp
        · by_cases e : j = i
          · subst e; rw [pk_us]
          · have l2 : da_n (da_b f) j < da_n (da_b f) i := da_n_lt (by omega) hf
            rw [pk_un (by omega)]; exact c j (by omega) hf
    · have := ih (i + 1) s (by omega) (by omega) ⟨hs.1, hs.2.1, fun j hj hf => by
        by_cases e : j = i
        · subst e; rw [hb] at hf; exact absurd hf (by decide)
        · exact hs.2.2 j (by omega) hf⟩
      rw [da_nf hb] at this
      exact this
theorem xc_ah {post : SX → Prop} {v m x : Nat} (hv : v < 4) (hx : x < 64) (hsl : sl v = nI m) (hm : m + da_n (da_b (pa x &&& (dl v ^^^ (-1)))) 64 ≤ 64)
    (hp : ∀ s, dg_ah v m (pa x &&& (dl v ^^^ (-1))) sq s 64 → post (nI nw, nI (2 * nw), nI nf, nI ns, ex, ce, cm, es, sg, pa, sp, cr, rc, ad, lw, cw, vp_updL dl v (dl v ||| (pa x &&& (dl v ^^^ (-1)))), upd sl v (nI (m + da_n (da_b (pa x &&& (dl v ^^^ (-1)))) 64)), s)) :
    wpX_appendHistory post (nI nw, nI (2 * nw), nI nf, nI ns, ex, ce, cm, es, sg, pa, sp, cr, rc, ad, lw, cw, dl, sl, sq) (nI v) (nI x) := by
  have ecv : (nI v).toNatClampNeg = v := nI_clamp (by omega)
  have ecx : (nI x).toNatClampNeg = x := nI_clamp (by omega)
  have hin : vp_in (nI v) 4 := vp_in_nI hv (by omega)
  refine And.intro (vp_in_nI hx (by omega)) (And.intro hin (nm_r (e' := pa x &&& (dl v ^^^ (-1))) (by rw [ecv, ecx]) (Exists.intro 65 ?_)))
  have := xc_ah21 (post := post) hv hm hp 65 0 sq (by omega) (by omega) ⟨fun _ _ => rfl, fun _ _ => rfl, fun j hj => absurd hj (by omega)⟩
  have e0 : upd sl v (nI (m + da_n (da_b (pa x &&& (dl v ^^^ (-1)))) 0)) = sl := by
    show upd sl v (nI m) = sl
    rw [← hsl]; exact du_s
  rw [e0] at this
  exact this
/-- the state of appending after wave w -/
def dg_aq (P : Nat → Nat → Bool) (v w : Nat) (d : Int64) (sq s : Nat → Int32) : Prop :=
  (∀ i, da_b d i = dg_s P w i) ∧ dg_Q P w (fun p => s (64 * v + p)) ∧ (∀ p, (p < 64 * v ∨ 64 * v + 64 ≤ p) → s p = sq p)
theorem dg_aqS {P : Nat → Nat → Bool} {v w : Nat} {d f : Int64} {sq s s' : Nat → Int32} (h : dg_aq P v w d sq s) (hf : ∀ i, da_b f i = dg_f P w i) (ha : dg_ah v (dg_t P w) f s s' 64) : dg_aq P v (w + 1) (d ||| f) sq s' := by
  have ef : da_b f = dg_f P w := by funext i; exact hf i
  refine ⟨fun i => ?_, ?_, fun p hp => by rw [ha.1 p hp]; exact h.2.2 p hp⟩
  · rw [da_or, hf i, h.1 i]
    show (dg_s P w i || (P (w + 1) i && !dg_s P w i)) = (dg_s P w i || P (w + 1) i)
    cases dg_s P w i <;> cases P (w + 1) i <;> rfl
  · intro u hu i hi hfi
    by_cases e : u = w
    · subst e
      have := ha.2.2 i hi (by rw [hf i]; exact hfi)
      rw [ef] at this
      exact this
    · have q := h.2.1 u (by omega) i hi hfi
      have l1 : da_n (dg_f P u) i < da_n (dg_f P u) 64 := da_n_lt hi hfi
      have l2 : dg_t P u + da_n (dg_f P u) 64 = dg_t P (u + 1) := rfl
      have l3 : ∀ a b, a ≤ b → dg_t P a ≤ dg_t P b := by
        intro a b hab
        induction hab with
        | refl => exact Nat.le_refl _
        | step _ ih => exact Nat.le_trans ih (Nat.le_add_right _ _)
      have l4 := l3 (u + 1) w (by omega)
      show s' (64 * v + _) = nI i
      rw [ha.2.1 _ (by omega)]
      exact q
theorem xc_ac9 {post : SX → Prop} {v t' : Nat} (hs : ns < 4) (hv : v < 4) (ht : t' ≤ 4) (hc : ∀ k, bt (cw v) k = true → dg_l ns ce k < 64)
    (hp : ∀ d s, dg_aq (dg_P (cw v) (dg_l ns ce) pa) v t' d sq s → post (nI nw, nI (2 * nw), nI nf, nI ns, ex, ce, cm, es, sg, pa, sp, cr, rc, ad, lw, cw, vp_updL dl v d, upd sl v (nI (dg_t (dg_P (cw v) (dg_l ns ce) pa) t')), s)) :
    ∀ (n w : Nat) (d : Int64) (s : Nat → Int32), t' < n + w → w ≤ t' → dg_aq (dg_P (cw v) (dg_l ns ce) pa) v w d sq s →
      wX_appendChain_9 post (nI v) (nI t') n (nI (w + 1)) (nI nw) (nI (2 * nw)) (nI nf) (nI ns) ex ce cm es sg pa sp cr rc ad lw cw (vp_updL dl v d) (upd sl v (nI (dg_t (dg_P (cw v) (dg_l ns ce) pa) w))) s := by
  intro n
  induction n with
  | zero => intro w d s h1 h2; omega
  | succ n ih =>
    intro w d s hn hw ha
    have ecv : (nI v).toNatClampNeg = v := nI_clamp (by omega)
    have hin : vp_in (nI v) 4 := vp_in_nI hv (by omega)
    rw [wX_appendChain_9]
    refine pk_lt t' (w + 1) (fun h => ?_) (fun h => ?_)
    · have e : w = t' := by omega
      subst e
      exact hp d s ha
    · have skip : bt (cw v) (w + 1) = false → wX_appendChain_9 post (nI v) (nI t') n (nI (w + 1 + 1)) (nI nw) (nI (2 * nw)) (nI nf) (nI ns) ex ce cm es sg pa sp cr rc ad lw cw (vp_updL dl v d) (upd sl v (nI (dg_t (dg_P (cw v) (dg_l ns ce) pa) w))) s := by
        intro z
        have P0 : ∀ i, dg_P (cw v) (dg_l ns ce) pa (w + 1) i = false := fun i => by unfold dg_P; rw [z]; rfl
        have := ih (w + 1) d s (by omega) (by omega) ⟨fun i => by rw [dg_s_0 P0]; exact ha.1 i, dg_Q_0 P0 ha.2.1, ha.2.2⟩
        rw [dg_t_0 P0] at this
        exact this
      refine xc_lead hs (by omega) (by omega) (fun hL => br_f (nI_pos (by omega)) (And.intro hin ?_)) (fun hL => br_t (by decide) (nm_r (nI_1 _) (skip ?_)))
      · rw [ecv]
        refine xa_i32 (by omega) (fun hb => ?_) (fun hb => nm_r (nI_1 _) (skip hb))
        have ef : ∀ i, da_b (pa (dg_l ns ce (w + 1)) &&& (d ^^^ (-1))) i = dg_f (dg_P (cw v) (dg_l ns ce) pa) w i := fun i => by
          rw [da_andn, ha.1 i]
          unfold dg_f
          show _ = ((bt (cw v) (w + 1) && da_b (pa (dg_l ns ce (w + 1))) i) && _)
          rw [hb, Bool.true_and]
        have ef' : da_b (pa (dg_l ns ce (w + 1)) &&& (d ^^^ (-1))) = dg_f (dg_P (cw v) (dg_l ns ce) pa) w := by funext i; exact ef i
        have tS : dg_t (dg_P (cw v) (dg_l ns ce) pa) w + da_n (dg_f (dg_P (cw v) (dg_l ns ce) pa) w) 64 = dg_t (dg_P (cw v) (dg_l ns ce) pa) (w + 1) := rfl
        have t64 := dg_t64 (dg_P (cw v) (dg_l ns ce) pa) (w + 1)
        refine xc_ah (m := dg_t (dg_P (cw v) (dg_l ns ce) pa) w) hv hL pk_us ?_ (fun s' hs' => nm_r (nI_1 _) ?_)
        · rw [pk_uLs, ef', tS]; exact t64
        · rw [pk_uLs] at hs'
          rw [pk_uLs, ef', tS, du_uL, du_u]
          exact ih (w + 1) _ s' (by omega) (by omega) (dg_aqS ha ef hs')
      · cases e : bt (cw v) (w + 1)
        · rfl
        · have := hc _ e; omega
theorem xc_link {post : SX → Prop} {v t w : Nat} (hs : ns < 4) (hv : v < 4) (hl : lw v = nI t) (hw : w ≤ 4) (ht : t ≤ w)
    (hp : ∀ c', (∀ k, bt c' k = (bt (cw v) k || (decide (t < k) && dg_c (dg_l ns ce) sp w (-1) k))) → post (nI nw, nI (2 * nw), nI nf, nI ns, ex, ce, cm, es, sg, pa, sp, cr, rc, ad, lw, upd cw v c', dl, sl, sq)) : wpX_linkChain post (nI nw, nI (2 * nw), nI nf, nI ns, ex, ce, cm, es, sg, pa, sp, cr, rc, ad, lw, cw, dl, sl, sq) (nI v) (nI w) := by
  have := xc_link7 (post := post) hs hv hl 5 w (-1) (cw v) (by omega) hw ht hp
  rw [du_s] at this
  exact Exists.intro 5 this
theorem xc_app {post : SX → Prop} {v t t' : Nat} (hs : ns < 4) (hv : v < 4) (ht : t' ≤ 4) (htt : t ≤ t') (hl : lw v = nI t) (hc : ∀ k, bt (cw v) k = true → dg_l ns ce k < 64) (hsl : sl v = nI (dg_t (dg_P (cw v) (dg_l ns ce) pa) t))
    (h0 : dg_aq (dg_P (cw v) (dg_l ns ce) pa) v t (dl v) sq sq)
    (hp : ∀ d s, dg_aq (dg_P (cw v) (dg_l ns ce) pa) v t' d sq s → post (nI nw, nI (2 * nw), nI nf, nI ns, ex, ce, cm, es, sg, pa, sp, cr, rc, ad, lw, cw, vp_updL dl v d, upd sl v (nI (dg_t (dg_P (cw v) (dg_l ns ce) pa) t')), s)) : wpX_appendChain post (nI nw, nI (2 * nw), nI nf, nI ns, ex, ce, cm, es, sg, pa, sp, cr, rc, ad, lw, cw, dl, sl, sq) (nI v) (nI t') := by
  have ecv : (nI v).toNatClampNeg = v := nI_clamp (by omega)
  refine And.intro (vp_in_nI hv (by omega)) (nm_r (e' := nI (t + 1)) (by rw [ecv, hl, nI_1]) (Exists.intro 6 ?_))
  have := xc_ac9 (post := post) hs hv ht hc hp 6 t (dl v) sq (by omega) htt h0
  rw [← hsl, du_s, du_sL] at this
  exact this
/-- one validator commits -/
theorem xc_for {post : Int32 → SX → Prop} {v t : Nat} (hn4 : nw ≤ 4) (hs : ns < 4) (hv : v < 4) (D : dg_D nf ex ce es sg pa sp) (ha : ∀ i, da_b (ad v) i = true → da_b ce i = true)
    (H : dg_W1 nw ns ce es pa sp (ad v) (lw v) (cw v) (dl v) (sl v) (fun p => sq (64 * v + p)) t)
    (h0 : dg_g (dg_u ns ce es (ad v)) t nw = 0 → post 0 (nI nw, nI (2 * nw), nI nf, nI ns, ex, ce, cm, es, sg, pa, sp, cr, rc, ad, lw, cw, dl, sl, sq))
    (h1 : ∀ g c d s m, dg_g (dg_u ns ce es (ad v)) t nw = g → g ≠ 0 → dg_W1 nw ns ce es pa sp (ad v) (nI g) c d (nI m) (fun p => s (64 * v + p)) g → (∀ p, (p < 64 * v ∨ 64 * v + 64 ≤ p) → s p = sq p) →
      post (nI m - sl v) (nI nw, nI (2 * nw), nI nf, nI ns, ex, ce, cm, es, sg, pa, sp, cr, rc, ad, upd lw v (nI g), upd cw v c, vp_updL dl v d, upd sl v (nI m), s)) : wpX_commitFor post (nI nw, nI (2 * nw), nI nf, nI ns, ex, ce, cm, es, sg, pa, sp, cr, rc, ad, lw, cw, dl, sl, sq) (nI v) := by
  have ecv : (nI v).toNatClampNeg = v := nI_clamp (by omega)
  have hin : vp_in (nI v) 4 := vp_in_nI hv (by omega)
  obtain ⟨b1, b2, b3, b4, b5, b6, b7⟩ := H
  unfold wpX_commitFor
  refine Exists.intro 5 (xc_gr5 hs hv (by omega) b2 5 nw (by omega) hn4 ?_)
  by_cases hg : dg_g (dg_u ns ce es (ad v)) t nw = 0
  · rw [hg]
    exact br_t rfl (h0 hg)
  · have G := dg_g_in nw hg
    have h1' := h1 (dg_g (dg_u ns ce es (ad v)) t nw)
    generalize dg_g (dg_u ns ce es (ad v)) t nw = g at G hg h1' ⊢
    refine br_f (nI_ne0 (by omega) (by omega)) (And.intro hin (nm_r (e' := sl v) (by rw [ecv]) ?_))
    have U : dg_l ns ce g < 64 ∧ 2 ≤ dg_sc (ad v) es (dg_l ns ce g) g := by
      have := G.2.2
      unfold dg_u at this
      rw [Bool.and_eq_true, decide_eq_true_eq, decide_eq_true_eq] at this
      exact this
    refine xc_link hs hv b2 (by omega) (by omega) (fun c hc => ?_)
    have L1 : ∀ w, t < w → w ≤ g → dg_l ns ce w < 64 → 1 ≤ t → da_b (sp (dg_l ns ce w)) (dg_l ns ce t) = true := by
      intro w hw1 hw2 hL ht
      have y := b3 ht
      have r1 := dg_l_r y.1 ht
      have r2 := dg_l_r hL (by omega)
      exact dg_safe D ha (dg_l_c y.1) (by omega) ht y.2 _ (dg_l_c hL) (by omega)
    have cbits : ∀ k, bt c k = dg_c (dg_l ns ce) sp g (-1) k := by
      intro k
      rw [hc k, b4 k]
      by_cases hk : t < k
      · rw [dg_c_hi hk, decide_eq_true hk, Bool.false_or, Bool.true_and]
      · rw [decide_eq_false hk, Bool.false_and, Bool.or_false]
        by_cases ht : 1 ≤ t
        · obtain ⟨q, rfl⟩ : ∃ q, g = q + 1 := ⟨g - 1, by omega⟩
          rw [dg_c_t (w := q) (da_m1 _ U.1), decide_eq_false (by omega), Bool.false_or]
          exact (dg_cont ht q _ (by omega) (fun w h1 h2 h3 => L1 w h1 (by omega) h3 ht) (L1 (q + 1) (by omega) (Nat.le_refl _) U.1 ht) k (by omega)).symm
        · have t0 : t = 0 := by omega
          subst t0
          have k0 : k = 0 := by omega
          subst k0
          cases e : dg_c (dg_l ns ce) sp g (-1) 0
          · rfl
          · have := dg_c_in g _ 0 e; omega
    have Pcg : ∀ w, 1 ≤ w → w ≤ t → ∀ i, dg_P c (dg_l ns ce) pa w i = dg_P (cw v) (dg_l ns ce) pa w i := by
      intro w _ hw i
      unfold dg_P
      rw [hc w, decide_eq_false (by omega), Bool.false_and, Bool.or_false]
    have ac0 : dg_aq (dg_P c (dg_l ns ce) pa) v t (dl v) sq sq := ⟨fun i => by rw [b5 i, dg_s_cg Pcg t (Nat.le_refl _) i], dg_Q_cg Pcg b7, fun _ _ => rfl⟩
    show wpX_appendChain _ (nI nw, nI (2 * nw), nI nf, nI ns, ex, ce, cm, es, sg, pa, sp, cr, rc, ad, lw, upd cw v c, dl, sl, sq) (nI v) (nI g)
    refine xc_app hs hv (by omega) (by omega) b2 (fun k hk => by rw [pk_us, cbits k] at hk; exact (dg_c_in g _ k hk).2.2) (by rw [pk_us, dg_t_cg Pcg t (Nat.le_refl _)]; exact b6) (by rw [pk_us]; exact ac0) (fun d s hd => ?_)
    rw [pk_us] at hd ⊢
    refine And.intro hin (nm_r (e' := upd lw v (nI g)) (by rw [ecv]) (And.intro hin ?_))
    rw [ecv, pk_us]
    exact h1' c d s _ rfl hg ⟨by omega, rfl, fun _ => U, cbits, hd.1, rfl, hd.2.1⟩ hd.2.2
end XC
end
section
/-! Y's small methods -/
section YW
variable {nw nf ns : Nat} {sg cm : Nat → Int32} {es rc : Nat → Int64} {cr lw : Nat → Int32} {ex ce : Int64} {pa sp : Nat → Int64}
theorem ya_hasg {post : Int32 → Prop} {u : SY} {x : Int64} {k : Nat} (hk : k < 64) (h1 : da_b x k = true → post 1) (h0 : da_b x k = false → post 0) : wpY_has post u x (nI k) := by
  obtain ⟨_, _, _, _, _, _, _, _, _⟩ := u
  unfold wpY_has
  exact And.intro (fun e => h0 ((da_has hk x).mp e)) (fun e => h1 (ts_nf (fun z => e ((da_has hk x).mpr z))))
theorem ya_has {A B : Prop} {u : SY} {x : Int64} {k : Nat} (hk : k < 64) (h1 : da_b x k = true → B) (h0 : da_b x k = false → A) : wpY_has (fun r => (r = 0 → A) ∧ (¬ r = 0 → B)) u x (nI k) :=
  ya_hasg hk (fun h => br_f (by decide) (h1 h)) (fun h => br_t rfl (h0 h))
theorem ya_i32 {A B : Prop} {u : SY} {x : Int32} {k : Nat} (hk : k < 32) (h1 : bt x k = true → B) (h0 : bt x k = false → A) : wpY_has (fun r => (r = 0 → A) ∧ (¬ r = 0 → B)) u x.toInt64 (nI k) :=
  ya_has (by omega) (fun h => h1 (by rw [← da_i64 x hk]; exact h)) (fun h => h0 (by rw [← da_i64 x hk]; exact h))
theorem ya_cnt5 {post : Int32 → Prop} {x : Int64} : ∀ (n i : Nat), 64 < n + i → i ≤ 64 → post (nI (da_n (da_b x) 64)) → wY_count_5 post x (nI nw) (nI nf) (nI ns) sg cm es rc cr lw n (nI (da_n (da_b x) i)) (nI i) := by
  intro n
  induction n with
  | zero => intro i h1 h2; omega
  | succ n ih =>
    intro i hn hi hp
    refine pk_le 64 i (fun h => ?_) (fun h => ya_has (by omega) (fun hb => ?_) (fun hb => ?_))
    · have e : i = 64 := by omega
      subst e; exact hp
    · exact nm_r (e' := nI (da_n (da_b x) (i + 1))) (by rw [nI_1, da_nt hb]) (nm_r (nI_1 i) (ih (i + 1) (by omega) (by omega) hp))
    · refine nm_r (nI_1 i) ?_
      have := ih (i + 1) (by omega) (by omega) hp
      rw [da_nf hb] at this
      exact this
theorem ya_cnt {post : Int32 → Prop} {x : Int64} (h : post (nI (da_n (da_b x) 64))) : wpY_count post (nI nw, nI nf, nI ns, sg, cm, es, rc, cr, lw) x :=
  Exists.intro 65 (ya_cnt5 65 0 (by omega) (by omega) h)
theorem ya_rid {post : Int64 → Prop} {q : Nat} (hq : q ≤ 8) (h : post (dg_m q)) : wpY_roundIds post (nI nw, nI nf, nI ns, sg, cm, es, rc, cr, lw) (nI q) := by
  unfold wpY_roundIds
  refine pk_le 1 q (fun h1 => ?_) (fun h1 => ?_)
  · have e : 8 * (nI q - 1) = nI (8 * (q - 1)) := by
      rw [show (1 : Int32) = nI 1 from rfl, pk_sub h1, show (8 : Int32) = nI 8 from rfl, pk_mul]
    rw [e]
    unfold dg_m at h
    rw [if_neg (by omega)] at h
    exact h
  · unfold dg_m at h
    rw [if_pos (by omega)] at h
    exact h
theorem ya_hon0 {A B : Prop} {x : Int32} (h : x < 0 ∨ 3 < x ∨ x = nI nf) (a : A) : wpY_honest (fun r => (r = 0 → A) ∧ (¬ r = 0 → B)) (nI nw, nI nf, nI ns, sg, cm, es, rc, cr, lw) x := by
  unfold wpY_honest
  rcases h with z | z | z
  · exact br_t z (br_t rfl a)
  · exact br_c (fun _ => br_t rfl a) (fun _ => br_t z (br_t rfl a))
  · exact br_c (fun _ => br_t rfl a) (fun _ => br_c (fun _ => br_t rfl a) (fun _ => br_t z (br_t rfl a)))
theorem ya_hon1 {A B : Prop} {v : Nat} (hv : v < 4) (hf : nf < 4) (hn : v ≠ nf) (b : B) : wpY_honest (fun r => (r = 0 → A) ∧ (¬ r = 0 → B)) (nI nw, nI nf, nI ns, sg, cm, es, rc, cr, lw) (nI v) := by
  unfold wpY_honest
  refine br_f (nI_pos (by omega)) (br_f ?_ (br_f ?_ (br_f (by decide) b)))
  · exact nI_nlt (b := v) (a := 3) (by omega) (by omega)
  · rw [nI_eq (by omega) (by omega)]; exact hn
theorem ya_cho {A B : Prop} {v : Nat} {p : Int32} (hv : v < 4) (hf : nf < 4) (h1 : v ≠ nf → bt p v = true → B) (h0 : ¬ (v ≠ nf ∧ bt p v = true) → A) : wpY_chosen (fun r => (r = 0 → A) ∧ (¬ r = 0 → B)) (nI nw, nI nf, nI ns, sg, cm, es, rc, cr, lw) p (nI v) := by
  unfold wpY_chosen
  by_cases e : v = nf
  · subst e
    exact ya_hon0 (Or.inr (Or.inr rfl)) (br_t rfl (h0 (fun z => z.1 rfl)))
  · exact ya_hon1 hv hf e (ya_i32 (by omega) (fun hb => br_f (by decide) (h1 e hb)) (fun hb => br_t rfl (h0 (fun z => by rw [z.2] at hb; exact absurd hb (by decide)))))
theorem ya_idr0 {A B : Prop} {x : Int32} (hn : nw ≤ 4) (h : x < 0 ∨ nI (16 * nw) ≤ x) (a : A) : wpY_isId (fun r => (r = 0 → A) ∧ (¬ r = 0 → B)) (nI nw, nI nf, nI ns, sg, cm, es, rc, cr, lw) x := by
  unfold wpY_isId
  dsimp only
  have e : (16 : Int32) * nI nw = nI (16 * nw) := by rw [show (16 : Int32) = nI 16 from rfl, pk_mul]
  rw [e]
  rcases h with z | z
  · exact br_t z (br_t rfl a)
  · exact br_c (fun _ => br_t rfl a) (fun _ => br_t z (br_t rfl a))
theorem ya_idr1 {A B : Prop} {i : Nat} (hn : nw ≤ 4) (h : i < 16 * nw) (b : B) : wpY_isId (fun r => (r = 0 → A) ∧ (¬ r = 0 → B)) (nI nw, nI nf, nI ns, sg, cm, es, rc, cr, lw) (nI i) := by
  unfold wpY_isId
  dsimp only
  have e : (16 : Int32) * nI nw = nI (16 * nw) := by rw [show (16 : Int32) = nI 16 from rfl, pk_mul]
  rw [e]
  exact br_f (nI_pos (by omega)) (br_f (nI_ge h (by omega)) (br_f (by decide) b))
theorem ya_cert {A B : Prop} {i : Nat} (D : dg_D nf ex ce es sg pa sp) (hi : i < 64) (h1 : da_b ce i = true → B) (h0 : da_b ce i = false → A) : wpY_certified (fun r => (r = 0 → A) ∧ (¬ r = 0 → B)) (nI nw, nI nf, nI ns, sg, cm, es, rc, cr, lw) (nI i) := by
  have eci : (nI i).toNatClampNeg = i := nI_clamp (by omega)
  unfold wpY_certified
  refine And.intro (vp_in_nI hi (by omega)) (ya_cnt ?_)
  rw [eci]
  have cnt : da_n (da_b (sg i).toInt64) 64 = da_n (bt (sg i)) 4 := by
    rw [da_n_congr 64 (fun k _ => da_i4 (dg_s4 D hi) k)]
    exact da_n_cut (dg_s4 D hi) (by omega)
  have le := da_n_le (bt (sg i)) 4
  rw [cnt]
  refine pk_lt _ 3 (fun lt => br_t rfl (h0 ?_)) (fun ge => br_f (by decide) (h1 ((dg_ce D hi).mpr ge)))
  cases e : da_b ce i
  · rfl
  · have := (dg_ce D hi).mp e; omega
theorem ya_lead {post : Int32 → Prop} {w : Nat} (D : dg_D nf ex ce es sg pa sp) (hs : ns < 4) (hw : 1 ≤ w) (hw4 : w ≤ 4) (h1 : dg_l ns ce w < 64 → post (nI (dg_l ns ce w))) (h0 : dg_l ns ce w = 64 → post (-2)) : wpY_leader post (nI nw, nI nf, nI ns, sg, cm, es, rc, cr, lw) (nI w) := by
  have i64 := dg_i64 (s := ns) hw hw4
  unfold wpY_leader
  refine And.intro (by decide) (nm_r (da_ldY w (by omega) ns hs hw) ?_)
  rw [nI_1]
  refine ya_cert D (by omega) (fun hb => ?_) (fun hb => ya_cert D (by omega) (fun hc => ?_) (fun hc => ?_))
  · have e : dg_l ns ce w = dg_i ns w := if_pos hb
    rw [e] at h1
    exact h1 (by omega)
  · have e : dg_l ns ce w = dg_i ns w + 1 := by unfold dg_l; rw [if_neg (by rw [hb]; decide), if_pos hc]
    rw [e] at h1
    exact h1 (by omega)
  · exact h0 (by unfold dg_l; rw [if_neg (by rw [hb]; decide), if_neg (by rw [hc]; decide)])
theorem ya_adm5 {post : Int64 → Prop} {v : Nat} {a : Int64} (hf : nf < 4) (hv : v < 4) (h0 : v = nf → rc v = 0) (hd : dg_dn es (rc v)) (hA : dg_A es (rc v) a) (hp : post a) :
    ∀ (n i : Nat) (x : Int64), 64 < n + i → i ≤ 64 → (∀ j, da_b x j = (decide (j < i) && da_b a j)) → wY_admitted_5 post (nI v) (nI nw) (nI nf) (nI ns) sg cm es rc cr lw n x (nI i) := by
  intro n
  induction n with
  | zero => intro i x h1 h2; omega
  | succ n ih =>
    intro i x hn hi hx
    have ecv : (nI v).toNatClampNeg = v := nI_clamp (by omega)
    rw [wY_admitted_5]
    refine pk_le 64 i (fun h => ?_) (fun h => ?_)
    · have e : x = a := da_ext (fun j hj => by rw [hx j, decide_eq_true (by omega), Bool.true_and])
      rw [e]; exact hp
    · have eci : (nI i).toNatClampNeg = i := nI_clamp (by omega)
      have skip : da_b a i = false → wY_admitted_5 post (nI v) (nI nw) (nI nf) (nI ns) sg cm es rc cr lw n x (nI (i + 1)) := fun z => ih (i + 1) x (by omega) (by omega) (fun j => by
        rw [hx j]
        by_cases e : j = i
        · subst e; rw [z, Bool.and_false, Bool.and_false]
        · exact congrArg (· && da_b a j) (decide_eq_decide.mpr (by omega)))
      by_cases e : v = nf
      · subst e
        refine ya_hon0 (Or.inr (Or.inr rfl)) (nm_r (nI_1 i) (skip ?_))
        cases z : da_b a i
        · rfl
        · have := ((hA i).mp z).1
          rw [h0 rfl, da_0] at this; exact absurd this (by decide)
      · refine ya_hon1 hv hf e (And.intro (vp_in_nI hv (by omega)) ?_)
        rw [ecv]
        refine ya_has (by omega) (fun hg => And.intro (vp_in_nI (by omega) (by omega)) ?_) (fun hg => nm_r (nI_1 i) (skip ?_))
        · rw [eci]
          refine br_c (fun z => nm_e (nm_r (nI_1 i) (ih (i + 1) _ (by omega) (by omega) (fun j => ?_)))) (fun z => nm_r (nI_1 i) (skip ?_))
          · have ai : da_b a i = true := (hA i).mpr ⟨hg, fun j hj => by
              have := da_sub.mp z j hj
              rw [hx j, Bool.and_eq_true] at this
              exact this.2⟩
            rw [da_or, da_one (by omega), hx j]
            by_cases e : j = i
            · subst e; rw [ai, decide_eq_true (show j < j + 1 by omega), decide_eq_true rfl, Bool.or_true]; rfl
            · rw [decide_eq_false e, Bool.or_false]
              exact congrArg (· && da_b a j) (decide_eq_decide.mpr (by omega))
          · cases q : da_b a i
            · rfl
            · exfalso
              apply z
              refine da_sub.mpr (fun j hj => ?_)
              rw [hx j, ((hA i).mp q).2 j hj, decide_eq_true (hd i hg j hj)]; rfl
        · cases q : da_b a i
          · rfl
          · have := ((hA i).mp q).1
            rw [hg] at this; exact absurd this (by decide)
theorem ya_adm {post : Int64 → Prop} {v : Nat} {a : Int64} (hf : nf < 4) (hv : v < 4) (h0 : v = nf → rc v = 0) (hd : dg_dn es (rc v)) (hA : dg_A es (rc v) a) (hp : post a) : wpY_admitted post (nI nw, nI nf, nI ns, sg, cm, es, rc, cr, lw) (nI v) :=
  Exists.intro 65 (ya_adm5 hf hv h0 hd hA hp 65 0 0 (by omega) (by omega) (fun j => by rw [da_0, decide_eq_false (by omega), Bool.false_and]))
theorem ya_s27n {A B : Prop} {x : Int64} (a : A) : ∀ (n i : Nat), 64 < n + i → i ≤ 64 → wY_supported_27 (fun r => (r = 0 → A) ∧ (¬ r = 0 → B)) (-2) x (nI nw) (nI nf) (nI ns) sg cm es rc cr lw n 0 (nI i) := by
  intro n
  induction n with
  | zero => intro i h1 h2; omega
  | succ n ih =>
    intro i hn hi
    refine pk_le 64 i (fun h => br_t (by decide) (br_t rfl a)) (fun h => br_t (by decide) (nm_r (nI_1 i) (ih (i + 1) (by omega) (by omega))))
theorem ya_s27 {A B : Prop} {x : Int64} {l : Nat} (hl : l < 64) (h1 : 2 ≤ da_n (fun i => da_b x i && da_b (es i) l) 64 → B) (h0 : ¬ 2 ≤ da_n (fun i => da_b x i && da_b (es i) l) 64 → A) :
    ∀ (n i : Nat), 64 < n + i → i ≤ 64 → wY_supported_27 (fun r => (r = 0 → A) ∧ (¬ r = 0 → B)) (nI l) x (nI nw) (nI nf) (nI ns) sg cm es rc cr lw n (nI (da_n (fun i => da_b x i && da_b (es i) l) i)) (nI i) := by
  intro n
  induction n with
  | zero => intro i h1 h2; omega
  | succ n ih =>
    intro i hn hi
    have le := da_n_le (fun i => da_b x i && da_b (es i) l) i
    rw [wY_supported_27]
    refine pk_le 64 i (fun h => ?_) (fun h => br_f (nI_pos (by omega)) ?_)
    · have e : i = 64 := by omega
      subst e
      exact pk_lt _ 2 (fun z => br_t rfl (h0 (by omega))) (fun z => br_f (by decide) (h1 z))
    · have nx : (da_b x i && da_b (es i) l) = false → wY_supported_27 (fun r => (r = 0 → A) ∧ (¬ r = 0 → B)) (nI l) x (nI nw) (nI nf) (nI ns) sg cm es rc cr lw n (nI (da_n (fun i => da_b x i && da_b (es i) l) i)) (nI (i + 1)) := by
        intro z
        have := ih (i + 1) (by omega) (by omega)
        rw [da_nf (f := fun i => da_b x i && da_b (es i) l) z] at this
        exact this
      have eci : (nI i).toNatClampNeg = i := nI_clamp (by omega)
      refine ya_has (by omega) (fun ha => And.intro (vp_in_nI (by omega) (by omega)) ?_) (fun ha => nm_r (nI_1 _) (nx (by rw [ha]; rfl)))
      rw [eci]
      refine ya_has hl (fun hc => nm_r (e' := nI (da_n (fun i => da_b x i && da_b (es i) l) (i + 1))) ?_ (nm_r (nI_1 _) (ih (i + 1) (by omega) (by omega)))) (fun hc => nm_r (nI_1 _) (nx (by rw [hc, Bool.and_false])))
      rw [nI_1, da_nt]; rw [ha, hc]; rfl
theorem ya_scE {a : Int64} {x w : Nat} (hw : 1 ≤ w) (hw4 : w ≤ 4) : da_n (fun i => da_b (a &&& dg_m (2 * w)) i && da_b (es i) x) 64 = dg_sc a es x w := by
  unfold dg_sc
  rw [← da_n_win (fun i => da_b a i && da_b (es i) x) (b := 8 * (2 * w - 1)) (by omega)]
  apply da_n_congr
  intro i _
  rw [da_and, dg_m_b (by omega), Bool.and_assoc, Bool.and_assoc, Bool.and_comm (decide _) (da_b (es i) x)]
  exact congrArg (fun z => da_b a i && (da_b (es i) x && z)) (decide_eq_decide.mpr (by omega))
theorem ya_sup {A B : Prop} {v w : Nat} {a : Int64} (D : dg_D nf ex ce es sg pa sp) (hf : nf < 4) (hs : ns < 4) (hv : v < 4) (hw : 1 ≤ w) (hw4 : w ≤ 4) (hz : v = nf → rc v = 0) (hd : dg_dn es (rc v)) (hA : dg_A es (rc v) a)
    (h1 : dg_u ns ce es a w = true → B) (h0 : dg_u ns ce es a w = false → A) : wpY_supported (fun r => (r = 0 → A) ∧ (¬ r = 0 → B)) (nI nw, nI nf, nI ns, sg, cm, es, rc, cr, lw) (nI v) (nI w) := by
  unfold wpY_supported
  dsimp only
  have e2 : 2 * nI w = nI (2 * w) := by rw [show (2 : Int32) = nI 2 from rfl, pk_mul]
  rw [e2]
  refine ya_lead D hs hw hw4 (fun hl => ya_adm hf hv hz hd hA (ya_rid (by omega) (nm_e (Exists.intro 65 (ya_s27 hl (fun z => h1 ?_) (fun z => h0 ?_) 65 0 (by omega) (by omega)))))) (fun hl => ya_adm hf hv hz hd hA (ya_rid (by omega) (nm_e (Exists.intro 65 (ya_s27n (h0 ?_) 65 0 (by omega) (by omega))))))
  · unfold dg_u
    rw [decide_eq_true hl, Bool.true_and, decide_eq_true_eq]
    rw [ya_scE hw hw4] at z
    exact z
  · unfold dg_u
    rw [decide_eq_true hl, Bool.true_and, decide_eq_false_iff_not]
    rw [ya_scE hw hw4] at z
    exact z
  · unfold dg_u
    rw [decide_eq_false (by omega), Bool.false_and]
end YW
end
section
/-! Y: paths, histories, the chain, what is delivered -/
section YC
variable {nw nf ns : Nat} {sg cm : Nat → Int32} {es rc : Nat → Int64} {cr lw : Nat → Int32} {ex ce : Int64} {pa sp : Nat → Int64}
theorem yc_d8 {i : Nat} (hi : i < 64) : nI i / 8 = nI (i / 8) := pk_div (d := 8) (by omega) (by omega) (by omega)
theorem yc_sp7 {A B : Prop} {x y : Nat} (D : dg_D nf ex ce es sg pa sp) (hy : y < 64) (h1 : da_b (sp x) y = true → B) (h0 : da_b (sp x) y = false → A) :
    ∀ (n m : Nat) (r : Int64) (z : Int32), m < n → m ≤ 64 → z = nI m + (-1) → dg_R sp ce x r m → wY_strongPath_7 (fun r => (r = 0 → A) ∧ (¬ r = 0 → B)) (nI y) (nI nw) (nI nf) (nI ns) sg cm es rc cr lw n r z := by
  intro n
  induction n with
  | zero => intro m r z h; omega
  | succ n ih =>
    intro m r z hn hm hz hR
    rw [wY_strongPath_7]
    cases m with
    | zero =>
      have ez : z = -1 := hz
      subst ez
      have e := dg_R_e hR
      subst e
      exact br_t (by decide) (ya_hasg hy (fun hb => And.intro narrow_b1 (br_f (by decide) (h1 hb))) (fun hb => And.intro narrow_b0 (br_t rfl (h0 hb))))
    | succ m =>
      rw [pk_m1] at hz
      subst hz
      have ecm : (nI m).toNatClampNeg = m := nI_clamp (by omega)
      refine br_f (nI_pos (by omega)) (ya_has (by omega) (fun hb => And.intro (vp_in_nI (by omega) (by omega)) (And.intro (by decide) ?_)) (fun hb => nm_e (ih m r _ (by omega) (by omega) rfl (dg_R_f hR hb))))
      rw [yc_d8 (by omega), ecm]
      exact ya_rid (by omega) (nm_e (nm_e (ih m _ _ (by omega) (by omega) rfl (dg_R_t (dg_Cls D) hR hb))))
theorem yc_spath {A B : Prop} {x y : Nat} (D : dg_D nf ex ce es sg pa sp) (hx : da_b ce x = true) (hy : y < 64) (h1 : da_b (sp x) y = true → B) (h0 : da_b (sp x) y = false → A) : wpY_strongPath (fun r => (r = 0 → A) ∧ (¬ r = 0 → B)) (nI nw, nI nf, nI ns, sg, cm, es, rc, cr, lw) (nI x) (nI y) := by
  have := da_lt hx
  exact nm_e (Exists.intro 66 (yc_sp7 D hy h1 h0 66 (x + 1) _ _ (by omega) (by omega) (pk_m1 x).symm (dg_R_0 (dg_Cls D) hx)))
theorem yc_hi25 {post : Int64 → Prop} {x : Nat} (D : dg_D nf ex ce es sg pa sp) (hp : post (pa x)) :
    ∀ (n m : Nat) (r : Int64) (z : Int32), m < n → m ≤ 64 → z = nI m + (-1) → dg_R pa ce x r m → wY_history_25 post (nI nw) (nI nf) (nI ns) sg cm es rc cr lw n r z := by
  intro n
  induction n with
  | zero => intro m r z h; omega
  | succ n ih =>
    intro m r z hn hm hz hR
    rw [wY_history_25]
    cases m with
    | zero =>
      have ez : z = -1 := hz
      subst ez
      have e := dg_R_e hR
      subst e
      exact br_t (by decide) hp
    | succ m =>
      rw [pk_m1] at hz
      subst hz
      have ecm : (nI m).toNatClampNeg = m := nI_clamp (by omega)
      refine br_f (nI_pos (by omega)) (ya_has (by omega) (fun hb => And.intro (vp_in_nI (by omega) (by omega)) ?_) (fun hb => nm_e (ih m r _ (by omega) (by omega) rfl (dg_R_f hR hb))))
      rw [ecm]
      exact nm_e (nm_e (ih m _ _ (by omega) (by omega) rfl (dg_R_t (dg_Clp D) hR hb)))
theorem yc_hist {post : Int64 → Prop} {i : Nat} (D : dg_D nf ex ce es sg pa sp) (hn : nw ≤ 4) (hi : i < 16 * nw) (hp : post (pa i)) : wpY_history post (nI nw, nI nf, nI ns, sg, cm, es, rc, cr, lw) (nI i) := by
  unfold wpY_history
  refine ya_idr1 hn hi (ya_cert D (by omega) (fun hb => ?_) (fun hb => ?_))
  · exact nm_e (Exists.intro 66 (yc_hi25 D hp 66 (i + 1) _ _ (by omega) (by omega) (pk_m1 i).symm (dg_R_0 (dg_Clp D) hb)))
  · rw [dg_p0 D (by omega) hb] at hp; exact hp
theorem yc_ch13 {post : Int32 → Prop} {v t : Nat} (D : dg_D nf ex ce es sg pa sp) (hs : ns < 4) (hv : v < 4) (ht : t ≤ 4) (hl : lw v = nI t) (hL : 1 ≤ t → dg_l ns ce t < 64) :
    ∀ (n w : Nat) (b x3 : Int32) (r : Int64), w < n → w ≤ t → ((w = t ∧ r = -1) ∨ (w < t ∧ ∃ X0, da_b ce X0 = true ∧ x3 = nI X0 ∧ r = sp X0)) →
      (∀ c, (∀ k, bt c k = (bt b k || dg_c (dg_l ns ce) sp w r k)) → post c) → wY_chain_13 post (nI v) (nI nw) (nI nf) (nI ns) sg cm es rc cr lw n b x3 (nI w) := by
  intro n
  induction n with
  | zero => intro w b x3 r h; omega
  | succ n ih =>
    intro w b x3 r hn hw hr hp
    have ecv : (nI v).toNatClampNeg = v := nI_clamp (by omega)
    rw [wY_chain_13]
    refine pk_lt w 1 (fun h => ?_) (fun h => ?_)
    · have e : w = 0 := by omega
      subst e
      exact hp b (fun k => by rw [show dg_c (dg_l ns ce) sp 0 r k = false from rfl, Bool.or_false])
    · obtain ⟨q, rfl⟩ : ∃ q, w = q + 1 := ⟨w - 1, by omega⟩
      have skip : (q + 1 < t ∧ ∃ X0, da_b ce X0 = true ∧ x3 = nI X0 ∧ r = sp X0) → da_b r (dg_l ns ce (q + 1)) = false → wY_chain_13 post (nI v) (nI nw) (nI nf) (nI ns) sg cm es rc cr lw n b x3 (nI q) := fun y z =>
        ih q b x3 r (by omega) (by omega) (Or.inr ⟨by omega, y.2⟩) (fun c hc => hp c (fun k => by rw [dg_c_f z]; exact hc k))
      refine ya_lead D hs (by omega) (by omega) (fun hl2 => br_f (nI_pos (by omega)) (And.intro (vp_in_nI hv (by omega)) ?_)) (fun hl2 => br_t (by decide) (nm_r (pk_m1 q) ?_))
      · have take : da_b r (dg_l ns ce (q + 1)) = true → wY_chain_53 post (wY_chain_13 post (nI v) (nI nw) (nI nf) (nI ns) sg cm es rc cr lw n) (nI v) b (nI (q + 1)) (nI (dg_l ns ce (q + 1))) (nI nw) (nI nf) (nI ns) sg cm es rc cr lw := fun z => by
          unfold wY_chain_53
          refine nm_e (nm_r (pk_m1 q) (ih q _ _ (sp (dg_l ns ce (q + 1))) (by omega) (by omega) (Or.inr ⟨by omega, _, dg_l_c hl2, rfl, rfl⟩) (fun c hc => hp c (fun k => ?_))))
          rw [hc k, dg_c_t z, b_or, da_o32 (by omega), Bool.or_assoc]
        rw [ecv, hl]
        refine pk_eq (q + 1) t (fun e => take ?_) (fun e => ?_)
        · rcases hr with y | y
          · rw [y.2]; exact da_m1 _ hl2
          · omega
        · rcases hr with y | ⟨y1, X0, y2, y3, y4⟩
          · omega
          · subst y3
            exact yc_spath D y2 hl2 (fun z => take (by rw [y4]; exact z)) (fun z => nm_r (pk_m1 q) (skip ⟨y1, X0, y2, rfl, y4⟩ (by rw [y4]; exact z)))
      · rcases hr with y | y
        · have := hL (by omega)
          rw [← y.1] at this
          omega
        · exact skip y (da_big (by omega))
theorem yc_chain {post : Int32 → Prop} {v t : Nat} {cwv : Int32} (D : dg_D nf ex ce es sg pa sp) (hs : ns < 4) (hv : v < 4) (ht : t ≤ 4) (hl : lw v = nI t) (hL : 1 ≤ t → dg_l ns ce t < 64) (hc : ∀ k, bt cwv k = dg_c (dg_l ns ce) sp t (-1) k) (hp : post cwv) : wpY_chain post (nI nw, nI nf, nI ns, sg, cm, es, rc, cr, lw) (nI v) := by
  have ecv : (nI v).toNatClampNeg = v := nI_clamp (by omega)
  refine And.intro (vp_in_nI hv (by omega)) (nm_r (e' := nI t) (by rw [ecv]; exact hl) (Exists.intro 5 (yc_ch13 D hs hv ht hl hL 5 t 0 (-2) (-1) (by omega) (Nat.le_refl _) (Or.inl ⟨rfl, rfl⟩) (fun c h => ?_))))
  have e : c = cwv := b_ext (fun k _ => by rw [h k, hc k, b_0, Bool.false_or])
  rw [e]; exact hp
theorem yc_part {post : Int64 → Prop} {v t w : Nat} {cwv : Int32} (D : dg_D nf ex ce es sg pa sp) (hn : nw ≤ 4) (hs : ns < 4) (hv : v < 4) (ht : t ≤ 4) (hw : 1 ≤ w) (hwn : w ≤ nw) (hl : lw v = nI t) (hL : 1 ≤ t → dg_l ns ce t < 64) (hc : ∀ k, bt cwv k = dg_c (dg_l ns ce) sp t (-1) k)
    (hp : ∀ p, (∀ i, da_b p i = dg_P cwv (dg_l ns ce) pa w i) → post p) : wpY_part post (nI nw, nI nf, nI ns, sg, cm, es, rc, cr, lw) (nI v) (nI w) := by
  unfold wpY_part
  have no : bt cwv w = false → post 0 := fun z => hp 0 (fun i => by rw [da_0]; unfold dg_P; rw [z]; rfl)
  refine ya_lead D hs hw (by omega) (fun h => yc_chain D hs hv ht hl hL hc (ya_i32 (by omega) (fun hb => yc_hist D hn ?_ (hp _ (fun i => ?_))) no)) (fun h => yc_chain D hs hv ht hl hL hc (ya_i32 (by omega) (fun hb => ?_) no))
  · have := dg_l_r h hw; omega
  · unfold dg_P; rw [hb]; rfl
  · rw [hc w] at hb
    have := (dg_c_in t _ w hb).2.2
    omega
theorem yc_dc15 {post : Int32 → Prop} {v t : Nat} {cwv : Int32} (D : dg_D nf ex ce es sg pa sp) (hn : nw ≤ 4) (hs : ns < 4) (hv : v < 4) (ht : t ≤ nw) (hl : lw v = nI t) (hL : 1 ≤ t → dg_l ns ce t < 64) (hc : ∀ k, bt cwv k = dg_c (dg_l ns ce) sp t (-1) k)
    (hp : post (nI (dg_t (dg_P cwv (dg_l ns ce) pa) t))) : ∀ (n w : Nat) (a : Int64), nw < n + w → w ≤ nw → (∀ i, da_b a i = dg_s (dg_P cwv (dg_l ns ce) pa) w i) → wY_deliveredCount_15 post (nI v) (nI nw) (nI nf) (nI ns) sg cm es rc cr lw n a (nI (w + 1)) := by
  intro n
  induction n with
  | zero => intro w a h1 h2; omega
  | succ n ih =>
    intro w a hn2 hw ha
    rw [wY_deliveredCount_15]
    refine pk_lt nw (w + 1) (fun h => ya_cnt ?_) (fun h => yc_part D hn hs hv (by omega) (by omega) (by omega) hl hL hc (fun p hq => nm_e (nm_r (nI_1 _) (ih (w + 1) _ (by omega) (by omega) (fun i => ?_)))))
    · have e : da_b a = dg_s (dg_P cwv (dg_l ns ce) pa) w := by funext i; exact ha i
      have tb := dg_t_by (dg_Pt (pa := pa) hc) (w - t)
      rw [show t + (w - t) = w by omega] at tb
      rw [e, ← dg_ts, tb]
      exact hp
    · rw [da_or, ha i, hq i]; rfl
theorem yc_dcount {post : Int32 → Prop} {v t : Nat} {cwv : Int32} (D : dg_D nf ex ce es sg pa sp) (hn : nw ≤ 4) (hf : nf < 4) (hs : ns < 4) (hv : v < 4) (hvf : v ≠ nf) (ht : t ≤ nw) (hl : lw v = nI t) (hL : 1 ≤ t → dg_l ns ce t < 64) (hc : ∀ k, bt cwv k = dg_c (dg_l ns ce) sp t (-1) k)
    (hp : post (nI (dg_t (dg_P cwv (dg_l ns ce) pa) t))) : wpY_deliveredCount post (nI nw, nI nf, nI ns, sg, cm, es, rc, cr, lw) (nI v) := by
  unfold wpY_deliveredCount
  exact ya_hon1 hv hf hvf (Exists.intro 6 (yc_dc15 D hn hs hv ht hl hL hc hp 6 0 0 (by omega) (by omega) (fun i => da_0 i)))
/-! the place of an id -/
theorem yc_de45 {post : Int32 → Prop} {J : Int64 → Int32 → Int32 → Prop} {x1 x2 x6 : Int32} {a f : Int64} {m : Nat} (hm : m + da_n (da_b f) 64 ≤ 64) (hJ : (∀ p, p < m + da_n (da_b f) 64 → x2 ≠ nI p) → J (a ||| f) (nI (m + da_n (da_b f) 64)) (x6 + 1))
    (hp : ∀ i, i < 64 → da_b f i = true → x2 = nI (m + da_n (da_b f) i) → post (nI i)) : ∀ (n i : Nat), 64 < n + i → i ≤ 64 → (∀ p, p < m + da_n (da_b f) i → x2 ≠ nI p) → wY_delivered_45 post J x1 x2 a x6 f (nI nw) (nI nf) (nI ns) sg cm es rc cr lw n (nI (m + da_n (da_b f) i)) (nI i) := by
  intro n
  induction n with
  | zero => intro i h1 h2; omega
  | succ n ih =>
    intro i hn hi hx
    rw [wY_delivered_45]
    refine pk_le 64 i (fun h => nm_e (nm_e ?_)) (fun h => ya_has (by omega) (fun hb => br_c (fun e => hp i (by omega) hb e.symm) (fun e => nm_r (e' := nI (m + da_n (da_b f) (i + 1))) (by rw [nI_1, da_nt hb, Nat.add_assoc]) (nm_r (nI_1 i) (ih (i + 1) (by omega) (by omega) ?_)))) (fun hb => nm_r (nI_1 i) ?_))
    · have e : i = 64 := by omega
      subst e
      exact hJ hx
    · intro p hpl
      rw [da_nt hb] at hpl
      by_cases q : p = m + da_n (da_b f) i
      · rw [q]; exact fun z => e z.symm
      · exact hx p (by omega)
    · have := ih (i + 1) (by omega) (by omega) (by rw [da_nf hb]; exact hx)
      rw [da_nf hb] at this
      exact this
theorem yc_de18 {post : Int32 → Prop} {v t : Nat} {cwv x2 : Int32} {sqv : Nat → Int32} (D : dg_D nf ex ce es sg pa sp) (hn : nw ≤ 4) (hs : ns < 4) (hv : v < 4) (ht : t ≤ nw) (hl : lw v = nI t) (hL : 1 ≤ t → dg_l ns ce t < 64) (hc : ∀ k, bt cwv k = dg_c (dg_l ns ce) sp t (-1) k) (hQ : dg_Q (dg_P cwv (dg_l ns ce) pa) t sqv)
    (h0 : (∀ p, p < dg_t (dg_P cwv (dg_l ns ce) pa) t → x2 ≠ nI p) → post (-2)) (h1 : ∀ p, p < dg_t (dg_P cwv (dg_l ns ce) pa) t → x2 = nI p → post (sqv p)) : ∀ (n w : Nat) (a : Int64), nw < n + w → w ≤ nw → (∀ i, da_b a i = dg_s (dg_P cwv (dg_l ns ce) pa) w i) →
      (∀ p, p < dg_t (dg_P cwv (dg_l ns ce) pa) w → x2 ≠ nI p) → wY_delivered_18 post (nI v) x2 (nI nw) (nI nf) (nI ns) sg cm es rc cr lw n a (nI (dg_t (dg_P cwv (dg_l ns ce) pa) w)) (nI (w + 1)) := by
  intro n
  induction n with
  | zero => intro w a h1 h2; omega
  | succ n ih =>
    intro w a hn2 hw ha hx
    have Pt := dg_Pt (pa := pa) hc
    rw [wY_delivered_18]
    refine pk_lt nw (w + 1) (fun h => h0 ?_) (fun h => yc_part D hn hs hv (by omega) (by omega) (by omega) hl hL hc (fun p hq => nm_e (Exists.intro 65 ?_)))
    · have tb := dg_t_by Pt (w - t)
      rw [show t + (w - t) = w by omega] at tb
      rw [← tb]; exact hx
    · have ef : da_b (p &&& (a ^^^ (-1))) = dg_f (dg_P cwv (dg_l ns ce) pa) w := by
        funext i
        rw [da_andn, hq i, ha i]; rfl
      have tS : dg_t (dg_P cwv (dg_l ns ce) pa) w + da_n (dg_f (dg_P cwv (dg_l ns ce) pa) w) 64 = dg_t (dg_P cwv (dg_l ns ce) pa) (w + 1) := rfl
      have t64 := dg_t64 (dg_P cwv (dg_l ns ce) pa) (w + 1)
      refine yc_de45 (m := dg_t (dg_P cwv (dg_l ns ce) pa) w) (f := p &&& (a ^^^ (-1))) (by rw [ef, tS]; exact t64) (fun hx' => ?_) (fun i hi hb e => ?_) 65 0 (by omega) (by omega) (by show ∀ p, p < _ + 0 → _; exact hx)
      · rw [ef, tS] at hx' ⊢
        rw [nI_1]
        refine ih (w + 1) _ (by omega) (by omega) (fun i => ?_) hx'
        rw [da_or, ha i, congrFun ef i]
        show (dg_s (dg_P cwv (dg_l ns ce) pa) w i || (dg_P cwv (dg_l ns ce) pa (w + 1) i && !dg_s (dg_P cwv (dg_l ns ce) pa) w i)) = (dg_s (dg_P cwv (dg_l ns ce) pa) w i || dg_P cwv (dg_l ns ce) pa (w + 1) i)
        cases dg_s (dg_P cwv (dg_l ns ce) pa) w i <;> cases dg_P cwv (dg_l ns ce) pa (w + 1) i <;> rfl
      · rw [ef] at hb e
        have wt : w < t := by
          rcases Nat.lt_or_ge w t with z | z
          · exact z
          · rw [dg_f_by (fun j => Pt (w + 1) (by omega) j)] at hb; exact absurd hb (by decide)
        have lt : da_n (dg_f (dg_P cwv (dg_l ns ce) pa) w) i < da_n (dg_f (dg_P cwv (dg_l ns ce) pa) w) 64 := da_n_lt hi hb
        have l3 : ∀ a b, a ≤ b → dg_t (dg_P cwv (dg_l ns ce) pa) a ≤ dg_t (dg_P cwv (dg_l ns ce) pa) b := by
          intro a b hab
          induction hab with
          | refl => exact Nat.le_refl _
          | step _ ih => exact Nat.le_trans ih (Nat.le_add_right _ _)
        have l4 := l3 (w + 1) t (by omega)
        have := h1 _ (by omega) e
        rw [hQ w wt i hi hb] at this
        exact this
end YC
end
section
/-! Y: signing and proposing -/
section YS
variable {nw nf ns : Nat} {sg cm : Nat → Int32} {es rc : Nat → Int64} {cr lw : Nat → Int32} {ex ce : Int64} {pa sp : Nat → Int64}
theorem ys_strE {i : Nat} (hi : i < 64) (h8 : 8 ≤ i) : da_n (da_b (es i &&& dg_m (i / 8))) 64 = da_n (fun k => da_b (es i) (8 * (i / 8) - 8 + k)) 8 := by
  rw [← da_n_win (da_b (es i)) (b := 8 * (i / 8) - 8) (by omega)]
  apply da_n_congr
  intro j _
  rw [da_and, dg_m_b (by omega)]
  exact congrArg (fun z => da_b (es i) j && z) (decide_eq_decide.mpr (by omega))
theorem ys_ws17 {A B : Prop} {v i : Nat} {a : Int64} (hv : v < 4) (hi : i < 64) (h1 : dg_ok es sg a v i → B) (h0 : ¬ dg_ok es sg a v i → A) :
    ∀ (n k : Nat), 64 < n + k → k ≤ 64 → (∀ j, j < k → da_b (es i) j = true → da_b a j = true ∧ j < 8 * (i / 8)) → wY_willSign_17 (fun r => (r = 0 → A) ∧ (¬ r = 0 → B)) (nI v) (nI i) (es i) a (nI nw) (nI nf) (nI ns) sg cm es rc cr lw n (nI k) := by
  have e1 : nI i ^^^ 1 = nI (i ^^^ 1) := nx_xor i 1
  have X1 := da_x1 i hi
  have ec1 : (nI (i ^^^ 1)).toNatClampNeg = i ^^^ 1 := nI_clamp (by omega)
  intro n
  induction n with
  | zero => intro k h1 h2; omega
  | succ n ih =>
    intro k hn hk hj
    rw [wY_willSign_17, e1, yc_d8 hi]
    refine pk_le 64 k (fun h => And.intro (by decide) (ya_rid (by omega) (nm_e (And.intro (vp_in_nI X1.1 (by omega)) ?_)))) (fun h => ya_has (by omega) (fun hb => And.intro (by decide) (And.intro (by decide) ?_)) (fun hb => nm_r (nI_1 k) (ih (k + 1) (by omega) (by omega) (fun j hj2 hb2 => ?_))))
    · rw [ec1]
      have all : ∀ j, da_b (es i) j = true → da_b a j = true ∧ j < 8 * (i / 8) := fun j hb => hj j (by have := da_lt hb; omega) hb
      refine ya_i32 (by omega) (fun hs => br_t rfl (h0 (fun z => by rw [z.1] at hs; exact absurd hs (by decide)))) (fun hs => pk_lt i 8 (fun h8 => br_f (by decide) (h1 ⟨hs, all, fun z => by omega⟩)) (fun h8 => ya_cnt ?_))
      rw [ys_strE hi h8]
      have le := da_n_le (fun k => da_b (es i) (8 * (i / 8) - 8 + k)) 8
      exact pk_lt _ 3 (fun z => br_t rfl (h0 (fun y => by have := y.2.2 h8; omega))) (fun z => br_f (by decide) (h1 ⟨hs, all, fun _ => z⟩))
    · rw [yc_d8 (show k < 64 by omega)]
      refine pk_le (i / 8) (k / 8) (fun z => br_t rfl (h0 (fun y => by have := (y.2.1 k hb).2; omega))) (fun z => ya_has (by omega) (fun ha => nm_r (nI_1 k) (ih (k + 1) (by omega) (by omega) (fun j hj2 hb2 => ?_))) (fun ha => br_t rfl (h0 (fun y => by rw [(y.2.1 k hb).1] at ha; exact absurd ha (by decide)))))
      by_cases e : j = k
      · subst e; exact ⟨ha, by omega⟩
      · exact hj j (by omega) hb2
    · by_cases e : j = k
      · subst e; rw [hb] at hb2; exact absurd hb2 (by decide)
      · exact hj j (by omega) hb2
theorem ys_will {A B : Prop} {v i : Nat} {a : Int64} (hf : nf < 4) (hv : v < 4) (hi : i < 64) (hz : v = nf → rc v = 0) (hd : dg_dn es (rc v)) (hA : dg_A es (rc v) a) (h1 : dg_ok es sg a v i → B) (h0 : ¬ dg_ok es sg a v i → A) : wpY_willSign (fun r => (r = 0 → A) ∧ (¬ r = 0 → B)) (nI nw, nI nf, nI ns, sg, cm, es, rc, cr, lw) (nI v) (nI i) := by
  have eci : (nI i).toNatClampNeg = i := nI_clamp (by omega)
  refine And.intro (vp_in_nI hi (by omega)) (nm_r (e' := es i) (by rw [eci]) (ya_adm hf hv hz hd hA (Exists.intro 65 (ys_ws17 hv hi h1 h0 65 0 (by omega) (by omega) (fun j hj => absurd hj (by omega))))))
theorem ys_pe65 {post : Int64 → Prop} {r : Nat} {a c : Int64} (hr : 1 ≤ r) (hr8 : r ≤ 8) (hdn : ∀ j, da_b a j = true → ∀ q, da_b (es j) q = true → q / 8 < j / 8)
    (hc : ∀ q, da_b c q = true ↔ ∃ j, j < 8 * (r - 1) ∧ da_b a j = true ∧ da_b (es j) q = true) (hp : ∀ e, dg_pe es a (8 * (r - 1)) e → post e) :
    ∀ (n i : Nat) (e : Int64), 64 < n + i → (i ≤ 8 * (r - 2)) → (∀ q, da_b e q = true ↔ ((da_b a q = true ∧ q / 8 + 1 = r - 1) ∨ (q < i ∧ da_b a q = true ∧ da_b c q = false))) → wY_proposalEdges_65 post (nI r) a c (nI nw) (nI nf) (nI ns) sg cm es rc cr lw n e (nI i) := by
  have fin : ∀ e : Int64, (∀ q, da_b e q = true ↔ ((da_b a q = true ∧ q / 8 + 1 = r - 1) ∨ (q < 8 * (r - 2) ∧ da_b a q = true ∧ da_b c q = false))) → post e := by
    intro e he
    apply hp
    intro q
    rw [he q]
    constructor
    · rintro (⟨k1, k2⟩ | ⟨k1, k2, k3⟩)
      · refine ⟨⟨k1, by omega⟩, fun ⟨j, ⟨k3, k4⟩, k5⟩ => ?_⟩
        have := hdn j k3 q k5
        omega
      · refine ⟨⟨k2, by omega⟩, fun ⟨j, ⟨k4, k5⟩, k6⟩ => ?_⟩
        rw [(hc q).mpr ⟨j, k5, k4, k6⟩] at k3
        exact absurd k3 (by decide)
    · rintro ⟨⟨k1, k2⟩, k3⟩
      by_cases e8 : q / 8 + 1 = r - 1
      · exact Or.inl ⟨k1, e8⟩
      · refine Or.inr ⟨by omega, k1, ?_⟩
        cases z : da_b c q
        · rfl
        · exfalso
          obtain ⟨j, y1, y2, y3⟩ := (hc q).mp z
          exact k3 ⟨j, ⟨y2, y1⟩, y3⟩
  intro n
  induction n with
  | zero => intro i e h1 h2; omega
  | succ n ih =>
    intro i e hn hi he
    rw [wY_proposalEdges_65]
    by_cases r1 : r = 1
    · subst r1
      have i0 : i = 0 := by omega
      subst i0
      exact br_t (by decide) (fin e he)
    · have el : 8 * (nI r - 2) = nI (8 * (r - 2)) := by
        rw [show (2 : Int32) = nI 2 from rfl, pk_sub (by omega), show (8 : Int32) = nI 8 from rfl, pk_mul]
      rw [el]
      refine pk_le (8 * (r - 2)) i (fun h => fin e (fun q => ?_)) (fun h => ya_has (by omega) (fun hb => ya_has (by omega) (fun hg => nm_r (nI_1 i) (ih (i + 1) e (by omega) (by omega) (fun q => ?_))) (fun hg => nm_e (nm_r (nI_1 i) (ih (i + 1) _ (by omega) (by omega) (fun q => ?_))))) (fun hb => nm_r (nI_1 i) (ih (i + 1) e (by omega) (by omega) (fun q => ?_))))
      · have e2 : i = 8 * (r - 2) := by omega
        rw [he q, e2]
      · rw [he q]
        constructor
        · rintro (z | ⟨z, y⟩)
          · exact Or.inl z
          · exact Or.inr ⟨by omega, y⟩
        · rintro (z | ⟨z, y⟩)
          · exact Or.inl z
          · by_cases e2 : q = i
            · subst e2; rw [hg] at y; exact absurd y.2 (by decide)
            · exact Or.inr ⟨by omega, y⟩
      · rw [da_or, da_one (by omega), Bool.or_eq_true, he q, decide_eq_true_eq]
        constructor
        · rintro ((z | ⟨z, y⟩) | z)
          · exact Or.inl z
          · exact Or.inr ⟨by omega, y⟩
          · subst z; exact Or.inr ⟨by omega, hb, hg⟩
        · rintro (z | ⟨z, y⟩)
          · exact Or.inl (Or.inl z)
          · by_cases e2 : q = i
            · exact Or.inr e2
            · exact Or.inl (Or.inr ⟨by omega, y⟩)
      · rw [he q]
        constructor
        · rintro (z | ⟨z, y⟩)
          · exact Or.inl z
          · exact Or.inr ⟨by omega, y⟩
        · rintro (z | ⟨z, y⟩)
          · exact Or.inl z
          · by_cases e2 : q = i
            · subst e2; rw [hb] at y; exact absurd y.1 (by decide)
            · exact Or.inr ⟨by omega, y⟩
theorem ys_pe23 {post : Int64 → Prop} {r : Nat} {a : Int64} (hr : 1 ≤ r) (hr8 : r ≤ 8) (hdn : ∀ j, da_b a j = true → ∀ q, da_b (es j) q = true → q / 8 < j / 8) (hp : ∀ e, dg_pe es a (8 * (r - 1)) e → post e) :
    ∀ (n i : Nat) (c : Int64), 64 < n + i → i ≤ 8 * (r - 1) → (∀ q, da_b c q = true ↔ ∃ j, j < i ∧ da_b a j = true ∧ da_b (es j) q = true) → wY_proposalEdges_23 post (nI r) a (a &&& dg_m (r - 1)) (nI nw) (nI nf) (nI ns) sg cm es rc cr lw n c (nI i) := by
  intro n
  induction n with
  | zero => intro i c h1 h2; omega
  | succ n ih =>
    intro i c hn hi hc
    have el : 8 * (nI r - 1) = nI (8 * (r - 1)) := by
      rw [show (1 : Int32) = nI 1 from rfl, pk_sub hr, show (8 : Int32) = nI 8 from rfl, pk_mul]
    rw [wY_proposalEdges_23, el]
    refine pk_le (8 * (r - 1)) i (fun h => Exists.intro 65 (ys_pe65 hr hr8 hdn (fun q => ?_) hp 65 0 _ (by omega) (by omega) (fun q => ?_))) (fun h => ya_has (by omega) (fun hb => And.intro (vp_in_nI (by omega) (by omega)) (nm_r (e' := c ||| es i) (by rw [nI_clamp (by omega)]) (nm_r (nI_1 i) (ih (i + 1) _ (by omega) (by omega) (fun q => ?_))))) (fun hb => nm_r (nI_1 i) (ih (i + 1) c (by omega) (by omega) (fun q => ?_))))
    · have e2 : i = 8 * (r - 1) := by omega
      rw [hc q, e2]
    · rw [da_and, dg_m_b (by omega), Bool.and_eq_true, decide_eq_true_eq]
      exact ⟨Or.inl, fun z => z.elim id (fun y => absurd y.1 (by omega))⟩
    · rw [da_or, Bool.or_eq_true, hc q]
      constructor
      · rintro (⟨j, k1, k2⟩ | z)
        · exact ⟨j, by omega, k2⟩
        · exact ⟨i, by omega, hb, z⟩
      · rintro ⟨j, k1, k2, k3⟩
        by_cases e2 : j = i
        · subst e2; exact Or.inr k3
        · exact Or.inl ⟨j, by omega, k2, k3⟩
    · rw [hc q]
      constructor
      · rintro ⟨j, k1, k2⟩
        exact ⟨j, by omega, k2⟩
      · rintro ⟨j, k1, k2, k3⟩
        by_cases e2 : j = i
        · subst e2; rw [hb] at k2; exact absurd k2 (by decide)
        · exact ⟨j, by omega, k2, k3⟩
theorem ys_pe {post : Int64 → Prop} {v r : Nat} {a : Int64} (hf : nf < 4) (hv : v < 4) (hr : 1 ≤ r) (hr8 : r ≤ 8) (hz : v = nf → rc v = 0) (hd : dg_dn es (rc v)) (hA : dg_A es (rc v) a) (hdn : ∀ j, da_b a j = true → ∀ q, da_b (es j) q = true → q / 8 < j / 8)
    (hp : ∀ e, dg_pe es a (8 * (r - 1)) e → post e) : wpY_proposalEdges post (nI nw, nI nf, nI ns, sg, cm, es, rc, cr, lw) (nI v) (nI r) := by
  unfold wpY_proposalEdges
  dsimp only
  have e1 : nI r - 1 = nI (r - 1) := pk_sub (b := 1) hr
  rw [e1]
  refine ya_adm hf hv hz hd hA (ya_rid (by omega) (nm_e (Exists.intro 65 (ys_pe23 hr hr8 hdn hp 65 0 0 (by omega) (by omega) (fun q => ?_)))))
  rw [da_0]
  exact ⟨fun z => absurd z (by decide), fun ⟨j, k1, _⟩ => absurd k1 (by omega)⟩
end YS
end
section
/-! the whole invariant; proposing and forging -/
def dg_N (nw nf ns : Nat) : Prop := 2 ≤ nw ∧ nw ≤ 4 ∧ nf < 4 ∧ ns < 4
def dg_K (nw nf ns : Nat) (ex ce : Int64) (es : Nat → Int64) (sg : Nat → Int32) (pa sp : Nat → Int64) (cr : Nat → Int32) (rc ad : Nat → Int64) (lw cw : Nat → Int32) (dl : Nat → Int64) (sl sq : Nat → Int32) : Prop :=
  dg_D nf ex ce es sg pa sp ∧ ∀ v, v < 4 → dg_V nw nf ns v ce es pa sp (cr v) (rc v) (ad v) (lw v) (cw v) (dl v) (sl v) (fun p => sq (64 * v + p))
section KP
variable {nw nf ns : Nat} {ex ce : Int64} {cm : Nat → Int32} {es : Nat → Int64} {sg : Nat → Int32} {pa sp : Nat → Int64} {cr : Nat → Int32} {rc ad : Nat → Int64} {lw cw : Nat → Int32} {dl : Nat → Int64} {sl sq : Nat → Int32}
theorem kp_hz (K : dg_K nw nf ns ex ce es sg pa sp cr rc ad lw cw dl sl sq) {v : Nat} (hv : v < 4) : v = nf → rc v = 0 := (K.2 v hv).2.1
theorem kp_rc (K : dg_K nw nf ns ex ce es sg pa sp cr rc ad lw cw dl sl sq) {v : Nat} (hv : v < 4) : ∀ i, da_b (rc v) i = true → da_b ce i = true := (K.2 v hv).2.2.1
theorem kp_A (K : dg_K nw nf ns ex ce es sg pa sp cr rc ad lw cw dl sl sq) {v : Nat} (hv : v < 4) : dg_A es (rc v) (ad v) := (K.2 v hv).2.2.2.1
theorem kp_W (K : dg_K nw nf ns ex ce es sg pa sp cr rc ad lw cw dl sl sq) {v : Nat} (hv : v < 4) : dg_W nw ns ce es pa sp (ad v) (lw v) (cw v) (dl v) (sl v) (fun p => sq (64 * v + p)) := (K.2 v hv).2.2.2.2
theorem kp_r (K : dg_K nw nf ns ex ce es sg pa sp cr rc ad lw cw dl sl sq) {v : Nat} (hv : v < 4) : ∃ r, 1 ≤ r ∧ r ≤ 2 * nw ∧ cr v = nI r := (K.2 v hv).1
theorem kp_ad (K : dg_K nw nf ns ex ce es sg pa sp cr rc ad lw cw dl sl sq) {v : Nat} (hv : v < 4) : ∀ i, da_b (ad v) i = true → da_b ce i = true := fun i h => kp_rc K hv i ((kp_A K hv i).mp h).1
theorem kp_dg {g : Int64} (D : dg_D nf ex ce es sg pa sp) (h : ∀ i, da_b g i = true → da_b ce i = true) : dg_dn es g := fun i hi j hj => by
  have := (dg_acc D (h i hi)).1 j hj
  omega
theorem kp_dn (K : dg_K nw nf ns ex ce es sg pa sp cr rc ad lw cw dl sl sq) {v : Nat} (hv : v < 4) : dg_dn es (rc v) := kp_dg K.1 (kp_rc K hv)
theorem kp_d8 (K : dg_K nw nf ns ex ce es sg pa sp cr rc ad lw cw dl sl sq) {v : Nat} (hv : v < 4) : ∀ j, da_b (ad v) j = true → ∀ q, da_b (es j) q = true → q / 8 < j / 8 := fun j hj q hq => ((dg_acc K.1 (kp_ad K hv j hj)).1 q hq).1
theorem kp_make (K : dg_K nw nf ns ex ce es sg pa sp cr rc ad lw cw dl sl sq) {i a : Nat} (e : Int64) (hi : i < 64) (hn : da_b ex i = false) (ha : i / 2 % 4 = a) (hev : a ≠ nf → i % 2 = 0) :
    dg_K nw nf ns (ex ||| ((1 : Int64) <<< ((nI i).toInt64 &&& 63))) ce (vp_updL es i e) (upd sg i ((1 : Int32) <<< (nI a &&& 31))) pa sp cr rc ad lw cw dl sl sq := by
  have D' := dg_make K.1 e hi hn ha hev
  refine ⟨D', fun v hv => dg_Vm K.1 D' (fun j hj => ⟨hj, pk_uLn ?_, rfl, rfl⟩) (K.2 v hv)⟩
  intro z
  subst z
  rw [dg_nc K.1 hn] at hj
  exact absurd hj (by decide)
/-! propose -/
theorem kp_y0 {q : Int32 → SY → Prop} {p0 p1 : Int32} {n c v r : Nat} (K : dg_K nw nf ns ex ce es sg pa sp cr rc ad lw cw dl sl sq) (hN : dg_N nw nf ns) (hv : v < 4) (hr : cr v = nI r) (hr1 : 1 ≤ r) (hr2 : r ≤ 2 * nw) (h : ¬ (v ≠ nf ∧ bt p0 v = true) ∨ sg (8 * (r - 1) + 2 * v) ≠ 0)
    (k : wY_propose_5 q p0 p1 (nI nw) (nI nf) (nI ns) n (nI c) (nI (v + 1)) sg cm es rc cr lw) : wY_propose_5 q p0 p1 (nI nw) (nI nf) (nI ns) (n + 1) (nI c) (nI v) sg cm es rc cr lw := by
  obtain ⟨_, hn4, hf, hs⟩ := hN
  have ecv : (nI v).toNatClampNeg = v := nI_clamp (by omega)
  have ei : 8 * (nI r - 1) + 2 * nI v = nI (8 * (r - 1) + 2 * v) := by
    rw [show (1 : Int32) = nI 1 from rfl, pk_sub hr1, show (8 : Int32) = nI 8 from rfl, pk_mul, show (2 : Int32) = nI 2 from rfl, pk_mul, nI_add]
  rw [wY_propose_5]
  refine pk_le 4 v (fun z => absurd z (by omega)) (fun _ => And.intro (vp_in_nI hv (by omega)) (nm_r (e' := nI (8 * (r - 1) + 2 * v)) (by rw [ecv, hr, ei]) (ya_cho hv hf (fun a b => And.intro (vp_in_nI (by omega) (by omega)) ?_) (fun _ => nm_r (nI_1 v) k))))
  rw [nI_clamp (show 8 * (r - 1) + 2 * v < 2 ^ 31 by omega)]
  rcases h with h | h
  · exact absurd ⟨a, b⟩ h
  · exact br_f h (nm_r (nI_1 v) k)
theorem kp_y1 {q : Int32 → SY → Prop} {p0 p1 : Int32} {n c v r : Nat} (K : dg_K nw nf ns ex ce es sg pa sp cr rc ad lw cw dl sl sq) (hN : dg_N nw nf ns) (hv : v < 4) (hr : cr v = nI r) (hr1 : 1 ≤ r) (hr2 : r ≤ 2 * nw) (hc : v ≠ nf ∧ bt p0 v = true) (h0 : sg (8 * (r - 1) + 2 * v) = 0)
    (k : ∀ e, dg_pe es (ad v) (8 * (r - 1)) e → wY_propose_5 q p0 p1 (nI nw) (nI nf) (nI ns) n (nI (c + 1)) (nI (v + 1)) (upd sg (8 * (r - 1) + 2 * v) ((1 : Int32) <<< (nI v &&& 31))) (upd cm (8 * (r - 1) + 2 * v) (p1 + nI v)) (vp_updL es (8 * (r - 1) + 2 * v) e) rc cr lw) : wY_propose_5 q p0 p1 (nI nw) (nI nf) (nI ns) (n + 1) (nI c) (nI v) sg cm es rc cr lw := by
  obtain ⟨_, hn4, hf, hs⟩ := hN
  have ecv : (nI v).toNatClampNeg = v := nI_clamp (by omega)
  have ei : 8 * (nI r - 1) + 2 * nI v = nI (8 * (r - 1) + 2 * v) := by
    rw [show (1 : Int32) = nI 1 from rfl, pk_sub hr1, show (8 : Int32) = nI 8 from rfl, pk_mul, show (2 : Int32) = nI 2 from rfl, pk_mul, nI_add]
  have hi : vp_in (nI (8 * (r - 1) + 2 * v)) 64 := vp_in_nI (by omega) (by omega)
  rw [wY_propose_5]
  refine pk_le 4 v (fun z => absurd z (by omega)) (fun _ => And.intro (vp_in_nI hv (by omega)) (nm_r (e' := nI (8 * (r - 1) + 2 * v)) (by rw [ecv, hr, ei]) (ya_cho hv hf (fun a b => And.intro hi ?_) (fun z => absurd hc z))))
  rw [nI_clamp (show 8 * (r - 1) + 2 * v < 2 ^ 31 by omega), ecv, hr]
  refine br_t h0 (And.intro (vp_in_nI hv (by omega)) (ys_pe hf hv hr1 (by omega) (kp_hz K hv) (kp_dn K hv) (kp_A K hv) (kp_d8 K hv) (fun e he => ?_)))
  exact And.intro hi (nm_e (And.intro hi (nm_e (And.intro hi (nm_e (nm_r (nI_1 c) (nm_r (nI_1 v) (k e he))))))))
theorem kp_pe {es : Nat → Int64} {a : Int64} {b : Nat} {e e' : Int64} (h : dg_pe es a b e) (h' : dg_pe es a b e') : e' = e := da_exi (fun i _ => (h' i).trans (h i).symm)
theorem kp_prop {post : Int32 → SX → Prop} {Y0 : (Int32 → SY → Prop) → Prop} {p0 p1 : Int32} (hN : dg_N nw nf ns) : ∀ (d v : Nat), v + d = 4 → ∀ (c : Nat) (ex : Int64) (cm : Nat → Int32) (es : Nat → Int64) (sg : Nat → Int32), dg_K nw nf ns ex ce es sg pa sp cr rc ad lw cw dl sl sq →
    (∀ q, wY_propose_5 q p0 p1 (nI nw) (nI nf) (nI ns) (d + 1) (nI c) (nI v) sg cm es rc cr lw → Y0 q) →
    (∀ (c : Nat) (ex : Int64) (cm : Nat → Int32) (es : Nat → Int64) (sg : Nat → Int32), dg_K nw nf ns ex ce es sg pa sp cr rc ad lw cw dl sl sq → (∀ q, q (nI c) (nI nw, nI nf, nI ns, sg, cm, es, rc, cr, lw) → Y0 q) → post (nI c) (nI nw, nI (2 * nw), nI nf, nI ns, ex, ce, cm, es, sg, pa, sp, cr, rc, ad, lw, cw, dl, sl, sq)) →
    wX_propose_12 post p1 ((p0 &&& 15) &&& (((1 : Int32) <<< (nI nf &&& 31)) ^^^ (-1))) (d + 1) (nI c) (nI v) (nI nw) (nI (2 * nw)) (nI nf) (nI ns) ex ce cm es sg pa sp cr rc ad lw cw dl sl sq := by
  intro d
  have hN' := hN
  obtain ⟨_, hn4, hf, hs⟩ := hN'
  induction d with
  | zero =>
    intro v hv c ex cm es sg K hY hp
    have e : v = 4 := by omega
    subst e
    exact br_t (by decide) (hp c ex cm es sg K (fun q hq => hY q (br_t (by decide) hq)))
  | succ d ih =>
    intro v hv c ex cm es sg K hY hp
    obtain ⟨r, hr1, hr2, hr⟩ := kp_r K (show v < 4 by omega)
    have ecv : (nI v).toNatClampNeg = v := nI_clamp (by omega)
    have ei : nI (8 * (r - 1)) + 2 * nI v = nI (8 * (r - 1) + 2 * v) := by
      rw [show (2 : Int32) = nI 2 from rfl, pk_mul, nI_add]
    have eb : 8 * (nI r - 1) = nI (8 * (r - 1)) := by
      rw [show (1 : Int32) = nI 1 from rfl, pk_sub hr1, show (8 : Int32) = nI 8 from rfl, pk_mul]
    rw [wX_propose_12]
    refine pk_le 4 v (fun z => absurd z (by omega)) (fun _ => xa_i32 (by omega) (fun hb => ?_) (fun hb => nm_r (nI_1 v) (ih (v + 1) (by omega) c ex cm es sg K (fun q hq => hY q (kp_y0 K hN (by omega) hr hr1 hr2 (Or.inl ?_) hq)) hp)))
    · rw [da_hn2 hf (by omega), Bool.and_eq_true, decide_eq_true_eq] at hb
      have hc : v ≠ nf ∧ bt p0 v = true := ⟨hb.2, hb.1⟩
      unfold wpX_proposeFor
      refine And.intro (vp_in_nI (by omega) (by omega)) (nm_r (e' := nI (8 * (r - 1))) (by rw [ecv, hr, eb]) (nm_r ei (xa_has (by omega) (fun hx => ?_) (fun hx => ?_))))
      · have s0 := (dg_ex K.1 (show 8 * (r - 1) + 2 * v < 64 by omega)).mp hx
        exact br_t rfl (nm_r (nI_1 v) (ih (v + 1) (by omega) c ex cm es sg K (fun q hq => hY q (kp_y0 K hN (by omega) hr hr1 hr2 (Or.inr s0) hq)) hp))
      · have s0 := dg_n0 K.1 (show 8 * (r - 1) + 2 * v < 64 by omega) hx
        refine xa_unc (by omega) (by omega) (fun e he => xa_make (by omega) (br_f (by decide) (nm_r (nI_1 c) (nm_r (nI_1 v) (ih (v + 1) (by omega) (c + 1) _ _ _ _ (kp_make K e (by omega) hx (by omega) (fun _ => by omega)) (fun q hq => hY q (kp_y1 K hN (by omega) hr hr1 hr2 hc s0 (fun e' he' => ?_))) hp)))))
        rw [kp_pe he he']
        exact hq
    · intro z
      rw [da_hn2 hf (by omega), z.2, decide_eq_true z.1] at hb
      exact absurd hb (by decide)
end KP
end
section
/-! signing -/
section KS
variable {nw nf ns : Nat} {ex ce : Int64} {cm : Nat → Int32} {es : Nat → Int64} {sg : Nat → Int32} {pa sp : Nat → Int64} {cr : Nat → Int32} {rc ad : Nat → Int64} {lw cw : Nat → Int32} {dl : Nat → Int64} {sl sq : Nat → Int32}
theorem ks_sign {ce' : Int64} {pa' sp' : Nat → Int64} (K : dg_K nw nf ns ex ce es sg pa sp cr rc ad lw cw dl sl sq) {v i : Nat} (hv : v < 4) (hi : i < 64) (hx : da_b ex i = true) (ho : v ≠ nf → dg_ok es sg (ad v) v i) (S : dg_sgn ce ce' es sg pa sp pa' sp' v i) :
    dg_K nw nf ns ex ce' es (upd sg i (sg i ||| ((1 : Int32) <<< (nI v &&& 31)))) pa' sp' cr rc ad lw cw dl sl sq := by
  obtain ⟨s1, s2, s3, s4, s5⟩ := S
  have D' := dg_sign K.1 hi hv hx (fun z => by
    have o := ho z
    refine ⟨⟨fun j hj => ⟨?_, kp_ad K hv j (o.2.1 j hj).1⟩, o.2.2⟩, o.1⟩
    have := (o.2.1 j hj).2
    omega) s1 s2 s3 s4 s5
  refine ⟨D', fun w hw => dg_Vm K.1 D' (fun j hj => ⟨(s1 j).mpr (Or.inl hj), rfl, ?_⟩) (K.2 w hw)⟩
  by_cases e : j = i
  · subst e; exact s3 hj
  · exact s2 j e
theorem ks_y0 {q : Int32 → SY → Prop} {J : Int32 → Int32 → (Nat → Int32) → (Nat → Int32) → (Nat → Int64) → (Nat → Int64) → (Nat → Int32) → (Nat → Int32) → Prop} {p0 p2 : Int32} {n c v r s : Nat} (K : dg_K nw nf ns ex ce es sg pa sp cr rc ad lw cw dl sl sq) (hN : dg_N nw nf ns) (hv : v < 4) (hs : s < 8) (hr1 : 1 ≤ r) (hr2 : r ≤ 2 * nw)
    (h : bt p0 v = false ∨ bt p2 s = false ∨ sg (8 * (r - 1) + s) = 0 ∨ bt (sg (8 * (r - 1) + s)) v = true ∨ (v ≠ nf ∧ ¬ dg_ok es sg (ad v) v (8 * (r - 1) + s)))
    (k : wY_sign_32 q J p0 (nI r) p2 (nI v) (nI nw) (nI nf) (nI ns) n (nI c) (nI (s + 1)) sg cm es rc cr lw) : wY_sign_32 q J p0 (nI r) p2 (nI v) (nI nw) (nI nf) (nI ns) (n + 1) (nI c) (nI s) sg cm es rc cr lw := by
  obtain ⟨_, hn4, hf, hs4⟩ := hN
  have ei : 8 * (nI r - 1) + nI s = nI (8 * (r - 1) + s) := by
    rw [show (1 : Int32) = nI 1 from rfl, pk_sub hr1, show (8 : Int32) = nI 8 from rfl, pk_mul, nI_add]
  have hi : vp_in (nI (8 * (r - 1) + s)) 64 := vp_in_nI (by omega) (by omega)
  have k' := nm_r (P := fun x => wY_sign_32 q J p0 (nI r) p2 (nI v) (nI nw) (nI nf) (nI ns) n (nI c) x sg cm es rc cr lw) (nI_1 s) k
  rw [wY_sign_32]
  refine pk_le 8 s (fun z => absurd z (by omega)) (fun _ => nm_r ei (ya_i32 (by omega) (fun b1 => ya_i32 (by omega) (fun b2 => And.intro hi ?_) (fun b2 => k')) (fun b1 => k')))
  rw [nI_clamp (show 8 * (r - 1) + s < 2 ^ 31 by omega)]
  refine br_c (fun z => k') (fun z => And.intro hi (ya_i32 (by omega) (fun b3 => k') (fun b3 => pk_eq v nf (fun e => ?_) (fun e => ys_will hf hv (by omega) (kp_hz K hv) (kp_dn K hv) (kp_A K hv) (fun o => ?_) (fun o => k')))))
  · exfalso
    rcases h with h | h | h | h | h
    · rw [b1] at h; exact absurd h (by decide)
    · rw [b2] at h; exact absurd h (by decide)
    · exact z h
    · rw [b3] at h; exact absurd h (by decide)
    · exact h.1 e
  · exfalso
    rcases h with h | h | h | h | h
    · rw [b1] at h; exact absurd h (by decide)
    · rw [b2] at h; exact absurd h (by decide)
    · exact z h
    · rw [b3] at h; exact absurd h (by decide)
    · exact h.2 o
theorem ks_y1 {q : Int32 → SY → Prop} {J : Int32 → Int32 → (Nat → Int32) → (Nat → Int32) → (Nat → Int64) → (Nat → Int64) → (Nat → Int32) → (Nat → Int32) → Prop} {p0 p2 : Int32} {n c v r s : Nat} (K : dg_K nw nf ns ex ce es sg pa sp cr rc ad lw cw dl sl sq) (hN : dg_N nw nf ns) (hv : v < 4) (hs : s < 8) (hr1 : 1 ≤ r) (hr2 : r ≤ 2 * nw)
    (h1 : bt p0 v = true) (h2 : bt p2 s = true) (h3 : sg (8 * (r - 1) + s) ≠ 0) (h4 : bt (sg (8 * (r - 1) + s)) v = false) (h5 : v ≠ nf → dg_ok es sg (ad v) v (8 * (r - 1) + s))
    (k : wY_sign_32 q J p0 (nI r) p2 (nI v) (nI nw) (nI nf) (nI ns) n (nI (c + 1)) (nI (s + 1)) (upd sg (8 * (r - 1) + s) (sg (8 * (r - 1) + s) ||| ((1 : Int32) <<< (nI v &&& 31)))) cm es rc cr lw) : wY_sign_32 q J p0 (nI r) p2 (nI v) (nI nw) (nI nf) (nI ns) (n + 1) (nI c) (nI s) sg cm es rc cr lw := by
  obtain ⟨_, hn4, hf, hs4⟩ := hN
  have ei : 8 * (nI r - 1) + nI s = nI (8 * (r - 1) + s) := by
    rw [show (1 : Int32) = nI 1 from rfl, pk_sub hr1, show (8 : Int32) = nI 8 from rfl, pk_mul, nI_add]
  have ec : (nI (8 * (r - 1) + s)).toNatClampNeg = 8 * (r - 1) + s := nI_clamp (by omega)
  have hi : vp_in (nI (8 * (r - 1) + s)) 64 := vp_in_nI (by omega) (by omega)
  have tk : wY_sign_125 q J (wY_sign_32 q J p0 (nI r) p2 (nI v) (nI nw) (nI nf) (nI ns) n) p0 (nI r) p2 (nI c) (nI v) (nI s) (nI (8 * (r - 1) + s)) (nI nw) (nI nf) (nI ns) sg cm es rc cr lw := by
    unfold wY_sign_125
    rw [ec]
    exact And.intro hi (And.intro hi (nm_e (nm_r (nI_1 c) (nm_r (nI_1 s) k))))
  rw [wY_sign_32]
  refine pk_le 8 s (fun z => absurd z (by omega)) (fun _ => nm_r ei (ya_i32 (by omega) (fun b1 => ya_i32 (by omega) (fun b2 => And.intro hi ?_) (fun b2 => ?_)) (fun b1 => ?_)))
  · rw [ec]
    refine br_f h3 (And.intro hi (ya_i32 (by omega) (fun b3 => ?_) (fun b3 => pk_eq v nf (fun e => tk) (fun e => ys_will hf hv (by omega) (kp_hz K hv) (kp_dn K hv) (kp_A K hv) (fun o => tk) (fun o => absurd (h5 e) o)))))
    rw [h4] at b3; exact absurd b3 (by decide)
  · rw [h2] at b2; exact absurd b2 (by decide)
  · rw [h1] at b1; exact absurd b1 (by decide)
theorem ks_in {post : Int32 → SX → Prop} {J24 : Int32 → Int32 → Int32 → Int32 → Int32 → Int32 → Int64 → Int64 → (Nat → Int32) → (Nat → Int64) → (Nat → Int32) → (Nat → Int64) → (Nat → Int64) → (Nat → Int32) → (Nat → Int64) → (Nat → Int64) → (Nat → Int32) → (Nat → Int32) → (Nat → Int64) → (Nat → Int32) → (Nat → Int32) → Prop}
    {Y0 : (Int32 → SY → Prop) → (Int32 → Int32 → (Nat → Int32) → (Nat → Int32) → (Nat → Int64) → (Nat → Int64) → (Nat → Int32) → (Nat → Int32) → Prop) → Prop} {p0 p2 : Int32} {v r : Nat} (hN : dg_N nw nf ns) (hv : v < 4) (hr1 : 1 ≤ r) (hr2 : r ≤ 2 * nw) :
    ∀ (d s : Nat), s + d = 8 → ∀ (c : Nat) (ce : Int64) (sg : Nat → Int32) (pa sp : Nat → Int64), dg_K nw nf ns ex ce es sg pa sp cr rc ad lw cw dl sl sq →
    (∀ q J, wY_sign_32 q J p0 (nI r) p2 (nI v) (nI nw) (nI nf) (nI ns) (d + 1) (nI c) (nI s) sg cm es rc cr lw → Y0 q J) →
    (∀ (c : Nat) (ce : Int64) (sg : Nat → Int32) (pa sp : Nat → Int64), dg_K nw nf ns ex ce es sg pa sp cr rc ad lw cw dl sl sq → (∀ q J, J (nI c) (nI (v + 1)) sg cm es rc cr lw → Y0 q J) → J24 (nI c) (nI (v + 1)) (nI nw) (nI (2 * nw)) (nI nf) (nI ns) ex ce cm es sg pa sp cr rc ad lw cw dl sl sq) →
    wX_sign_33 post J24 p0 p2 (nI (8 * (r - 1))) (nI v) (d + 1) (nI c) (nI s) (nI nw) (nI (2 * nw)) (nI nf) (nI ns) ex ce cm es sg pa sp cr rc ad lw cw dl sl sq := by
  intro d
  have hN' := hN
  obtain ⟨_, hn4, hf, hs4⟩ := hN'
  induction d with
  | zero =>
    intro s hs c ce sg pa sp K hY hp
    have e : s = 8 := by omega
    subst e
    exact br_t (by decide) (nm_r (nI_1 v) (hp c ce sg pa sp K (fun q J hq => hY q J (br_t (by decide) (nm_r (nI_1 v) hq)))))
  | succ d ih =>
    intro s hs c ce sg pa sp K hY hp
    have skip : (bt p0 v = false ∨ bt p2 s = false ∨ sg (8 * (r - 1) + s) = 0 ∨ bt (sg (8 * (r - 1) + s)) v = true ∨ (v ≠ nf ∧ ¬ dg_ok es sg (ad v) v (8 * (r - 1) + s))) → wX_sign_33 post J24 p0 p2 (nI (8 * (r - 1))) (nI v) (d + 1) (nI c) (nI (s + 1)) (nI nw) (nI (2 * nw)) (nI nf) (nI ns) ex ce cm es sg pa sp cr rc ad lw cw dl sl sq := fun h =>
      ih (s + 1) (by omega) c ce sg pa sp K (fun q J hq => hY q J (ks_y0 K hN hv (by omega) hr1 hr2 h hq)) hp
    have i64 : 8 * (r - 1) + s < 64 := by omega
    rw [wX_sign_33]
    refine pk_le 8 s (fun z => absurd z (by omega)) (fun _ => xa_i32 (by omega) (fun b1 => xa_i32 (by omega) (fun b2 => ?_) (fun b2 => nm_r (nI_1 s) (skip (Or.inr (Or.inl b2))))) (fun b1 => nm_r (nI_1 s) (skip (Or.inl b1))))
    rw [nI_add]
    refine xs_one K.1 hv hf i64 (fun h => br_t rfl (nm_r (nI_1 s) (skip ?_))) (fun hx h4 h5 ce' pa' sp' S => br_f (by decide) (nm_r (nI_1 c) (nm_r (nI_1 s) (ih (s + 1) (by omega) (c + 1) ce' _ pa' sp' (ks_sign K hv i64 hx h5 S) (fun q J hq => hY q J (ks_y1 K hN hv (by omega) hr1 hr2 b1 b2 ((dg_ex K.1 i64).mp hx) h4 h5 hq)) hp))))
    rcases h with h | h | h
    · exact Or.inr (Or.inr (Or.inl (dg_n0 K.1 i64 h)))
    · exact Or.inr (Or.inr (Or.inr (Or.inl h)))
    · exact Or.inr (Or.inr (Or.inr (Or.inr h)))
theorem ks_out {post : Int32 → SX → Prop} {Y0 : (Int32 → SY → Prop) → Prop} {p0 p2 : Int32} {r : Nat} (hN : dg_N nw nf ns) (hr1 : 1 ≤ r) (hr2 : r ≤ 2 * nw) :
    ∀ (d v : Nat), v + d = 4 → ∀ (c : Nat) (ce : Int64) (sg : Nat → Int32) (pa sp : Nat → Int64), dg_K nw nf ns ex ce es sg pa sp cr rc ad lw cw dl sl sq →
    (∀ q, wY_sign_23 q p0 (nI r) p2 (nI nw) (nI nf) (nI ns) (d + 1) (nI c) (nI v) sg cm es rc cr lw → Y0 q) →
    (∀ (c : Nat) (ce : Int64) (sg : Nat → Int32) (pa sp : Nat → Int64), dg_K nw nf ns ex ce es sg pa sp cr rc ad lw cw dl sl sq → (∀ q, q (nI c) (nI nw, nI nf, nI ns, sg, cm, es, rc, cr, lw) → Y0 q) → post (nI c) (nI nw, nI (2 * nw), nI nf, nI ns, ex, ce, cm, es, sg, pa, sp, cr, rc, ad, lw, cw, dl, sl, sq)) →
    wX_sign_24 post p0 p2 (nI (8 * (r - 1))) (d + 1) (nI c) (nI v) (nI nw) (nI (2 * nw)) (nI nf) (nI ns) ex ce cm es sg pa sp cr rc ad lw cw dl sl sq := by
  intro d
  induction d with
  | zero =>
    intro v hv c ce sg pa sp K hY hp
    have e : v = 4 := by omega
    subst e
    exact br_t (by decide) (hp c ce sg pa sp K (fun q hq => hY q (br_t (by decide) hq)))
  | succ d ih =>
    intro v hv c ce sg pa sp K hY hp
    have v4 : ¬ (4 : Int32) ≤ nI v := nI_ge (b := 4) (by omega) (by omega)
    rw [wX_sign_24]
    refine br_f v4 (Exists.intro 9 (ks_in (Y0 := fun q J => wY_sign_32 q J p0 (nI r) p2 (nI v) (nI nw) (nI nf) (nI ns) 9 (nI c) (nI 0) sg cm es rc cr lw) hN (by omega) hr1 hr2 8 0 (by omega) c ce sg pa sp K (fun q J h => h) (fun c' ce' sg' pa' sp' K' hY' => ?_)))
    exact ih (v + 1) (by omega) c' ce' sg' pa' sp' K' (fun q hq => hY q (br_f v4 (Exists.intro 9 (hY' q _ hq)))) hp
end KS
end
section
/-! delivering, advancing -/
section KD
variable {nw nf ns : Nat} {ex ce : Int64} {cm : Nat → Int32} {es : Nat → Int64} {sg : Nat → Int32} {pa sp : Nat → Int64} {cr : Nat → Int32} {rc ad : Nat → Int64} {lw cw : Nat → Int32} {dl : Nat → Int64} {sl sq : Nat → Int32}
/-- the arrivals: certified ids of round r that are asked for -/
def dg_ar (ce : Int64) (r : Nat) (p2 : Int32) (x : Int64) : Prop := ∀ i, da_b x i = true ↔ (da_b ce i = true ∧ 8 * (r - 1) ≤ i ∧ i < 8 * (r - 1) + 8 ∧ bt p2 (i - 8 * (r - 1)) = true)
theorem kd_8 {x : Int32} (h : ∀ k, 8 ≤ k → bt x k = false) {i : Nat} (hi : 8 ≤ i) : da_b x.toInt64 i = false := by
  rcases Nat.lt_or_ge i 32 with z | z
  · rw [da_i64 x z]; exact h i hi
  · have h31 : x.toBitVec.msb = false := by
      rw [BitVec.msb_eq_getLsbD_last]
      exact h 31 (by omega)
    unfold da_b
    rw [Int32.toBitVec_toInt64, BitVec.getLsbD_signExtend, if_neg (by omega), h31, Bool.and_false]
theorem kd_ar {p2 : Int32} {r : Nat} (hr1 : 1 ≤ r) (hr8 : r ≤ 8) : dg_ar ce r p2 (ce &&& (((p2 &&& 255).toInt64) <<< ((nI (8 * (r - 1))).toInt64 &&& 63))) := by
  intro i
  rcases Nat.lt_or_ge i 64 with h | h
  · rw [da_and, da_shl (by omega) _ h, Bool.and_eq_true, Bool.and_eq_true, decide_eq_true_eq]
    by_cases h1 : 8 * (r - 1) ≤ i
    · by_cases h2 : i < 8 * (r - 1) + 8
      · rw [da_i64 _ (by omega), b_and, b_255, decide_eq_true (by omega), Bool.and_true]
        exact ⟨fun z => ⟨z.1, h1, h2, z.2.2⟩, fun z => ⟨z.1, h1, z.2.2.2⟩⟩
      · constructor
        · rintro ⟨_, _, z⟩
          exfalso
          have s : ∀ k, 8 ≤ k → bt (p2 &&& 255) k = false := fun k hk => by rw [b_and, b_255, decide_eq_false (by omega), Bool.and_false]
          rw [kd_8 s (by omega)] at z
          exact absurd z (by decide)
        · rintro ⟨_, _, z, _⟩
          exact absurd z h2
    · exact ⟨fun z => absurd z.2.1 h1, fun z => absurd z.2.1 h1⟩
  · rw [da_big h, da_big h]
    exact ⟨fun z => absurd z (by decide), fun z => absurd z.1 (by decide)⟩
theorem kd_V {v : Nat} {g a : Int64} (K : dg_K nw nf ns ex ce es sg pa sp cr rc ad lw cw dl sl sq) (hvf : v ≠ nf) (hg : ∀ i, da_b g i = true → da_b ce i = true) (hA : dg_A es g a) (hm : ∀ j, da_b (ad v) j = true → da_b a j = true) :
    dg_K nw nf ns ex ce es sg pa sp cr (vp_updL rc v g) (vp_updL ad v a) lw cw dl sl sq := by
  refine ⟨K.1, fun w hw => ?_⟩
  by_cases e : w = v
  · subst e
    obtain ⟨k1, k2, k3, k4, k5⟩ := K.2 w hw
    rw [pk_uLs, pk_uLs]
    exact ⟨k1, fun z => absurd z hvf, hg, hA, dg_Wa hm k5⟩
  · rw [pk_uLn e, pk_uLn e]
    exact K.2 w hw
theorem kd_y50 {q : Int32 → SY → Prop} {J : Int32 → Int32 → (Nat → Int32) → (Nat → Int32) → (Nat → Int64) → (Nat → Int64) → (Nat → Int32) → (Nat → Int32) → Prop} {p0 p2 x4 : Int32} {b a x : Int64} {v r : Nat} (D : dg_D nf ex ce es sg pa sp) (hf : nf < 4) (hv : v < 4) (hvf : v ≠ nf) (hr1 : 1 ≤ r) (hr8 : r ≤ 8)
    (hx : dg_ar ce r p2 x) (hg : ∀ i, da_b (rc v ||| x) i = true → da_b ce i = true) (hA : dg_A es (rc v ||| x) a)
    (k : J (x4 + nI (da_n (fun k => da_b a k && !da_b b k) 64)) (nI (v + 1)) sg cm es (vp_updL rc v (rc v ||| x)) cr lw) :
    ∀ (n s : Nat) (g : Int64), 8 < n + s → s ≤ 8 → (∀ i, da_b g i = true ↔ (da_b (rc v) i = true ∨ (da_b x i = true ∧ i < 8 * (r - 1) + s))) → wY_deliver_50 q J p0 (nI r) p2 x4 (nI v) b (nI nw) (nI nf) (nI ns) n (nI s) sg cm es (vp_updL rc v g) cr lw := by
  have ecv : (nI v).toNatClampNeg = v := nI_clamp (by omega)
  have hin : vp_in (nI v) 4 := vp_in_nI hv (by omega)
  intro n
  induction n with
  | zero => intro s g h1 h2; omega
  | succ n ih =>
    intro s g hn hs hgb
    have ei : 8 * (nI r - 1) + nI s = nI (8 * (r - 1) + s) := by
      rw [show (1 : Int32) = nI 1 from rfl, pk_sub hr1, show (8 : Int32) = nI 8 from rfl, pk_mul, nI_add]
    rw [wY_deliver_50]
    refine pk_le 8 s (fun h => ?_) (fun h => ya_i32 (by omega) (fun hb => ?_) (fun hb => nm_r (nI_1 s) (ih (s + 1) g (by omega) (by omega) (fun i => ?_))))
    · have e8 : s = 8 := by omega
      have eg : g = rc v ||| x := da_exi (fun i _ => by
        rw [hgb i, da_or, Bool.or_eq_true]
        exact ⟨fun z => z.elim Or.inl (fun y => Or.inr y.1), fun z => z.elim Or.inl (fun y => Or.inr ⟨y, by have := ((hx i).mp y).2.2.1; omega⟩)⟩)
      subst eg
      refine ya_adm (rc := vp_updL rc v (rc v ||| x)) (a := a) hf hv (fun z => absurd z hvf) (by rw [pk_uLs]; exact kp_dg D hg) (by rw [pk_uLs]; exact hA) (nm_e (ya_cnt (nm_r (e' := x4 + nI (da_n (fun k => da_b a k && !da_b b k) 64)) ?_ (nm_r (nI_1 v) k))))
      rw [da_n_congr 64 (fun i _ => da_andn a b i)]
    · rw [ei]
      refine ya_cert D (by omega) (fun hc => And.intro hin (And.intro hin ?_)) (fun hc => nm_r (nI_1 s) (ih (s + 1) g (by omega) (by omega) (fun i => ?_)))
      · rw [ecv, pk_uLs, du_uL]
        refine nm_e (nm_r (nI_1 s) (ih (s + 1) _ (by omega) (by omega) (fun i => ?_)))
        rw [da_or, da_one (by omega), Bool.or_eq_true, hgb i, decide_eq_true_eq]
        constructor
        · rintro ((z | z) | z)
          · exact Or.inl z
          · exact Or.inr ⟨z.1, by omega⟩
          · subst z
            exact Or.inr ⟨(hx _).mpr ⟨hc, by omega, by omega, by rw [show 8 * (r - 1) + s - 8 * (r - 1) = s by omega]; exact hb⟩, by omega⟩
        · rintro (z | z)
          · exact Or.inl (Or.inl z)
          · by_cases e : i = 8 * (r - 1) + s
            · exact Or.inr e
            · exact Or.inl (Or.inr ⟨z.1, by omega⟩)
      · rw [hgb i]
        constructor
        · rintro (z | z)
          · exact Or.inl z
          · exact Or.inr ⟨z.1, by omega⟩
        · rintro (z | z)
          · exact Or.inl z
          · by_cases e : i = 8 * (r - 1) + s
            · subst e
              rw [((hx _).mp z.1).1] at hc; exact absurd hc (by decide)
            · exact Or.inr ⟨z.1, by omega⟩
    · rw [hgb i]
      constructor
      · rintro (z | z)
        · exact Or.inl z
        · exact Or.inr ⟨z.1, by omega⟩
      · rintro (z | z)
        · exact Or.inl z
        · by_cases e : i = 8 * (r - 1) + s
          · have y := ((hx _).mp z.1).2.2.2
            rw [e, show 8 * (r - 1) + s - 8 * (r - 1) = s by omega, hb] at y
            exact absurd y (by decide)
          · exact Or.inr ⟨z.1, by omega⟩
theorem kd_loop {post : Int32 → SX → Prop} {Y0 : (Int32 → SY → Prop) → Prop} {p0 p2 : Int32} {r : Nat} {x : Int64} (hN : dg_N nw nf ns) (hr1 : 1 ≤ r) (hr2 : r ≤ 2 * nw) (hx : dg_ar ce r p2 x) :
    ∀ (d v : Nat), v + d = 4 → ∀ (c : Int32) (rc ad : Nat → Int64), dg_K nw nf ns ex ce es sg pa sp cr rc ad lw cw dl sl sq →
    (∀ q, wY_deliver_23 q p0 (nI r) p2 (nI nw) (nI nf) (nI ns) (d + 1) c (nI v) sg cm es rc cr lw → Y0 q) →
    (∀ (c : Int32) (rc ad : Nat → Int64), dg_K nw nf ns ex ce es sg pa sp cr rc ad lw cw dl sl sq → (∀ q, q c (nI nw, nI nf, nI ns, sg, cm, es, rc, cr, lw) → Y0 q) → post c (nI nw, nI (2 * nw), nI nf, nI ns, ex, ce, cm, es, sg, pa, sp, cr, rc, ad, lw, cw, dl, sl, sq)) →
    wX_deliver_47 post x ((p0 &&& 15) &&& (((1 : Int32) <<< (nI nf &&& 31)) ^^^ (-1))) (d + 1) c (nI v) (nI nw) (nI (2 * nw)) (nI nf) (nI ns) ex ce cm es sg pa sp cr rc ad lw cw dl sl sq := by
  intro d
  have hN' := hN
  obtain ⟨_, hn4, hf, hs4⟩ := hN'
  induction d with
  | zero =>
    intro v hv c rc ad K hY hp
    have e : v = 4 := by omega
    subst e
    exact br_t (by decide) (hp c rc ad K (fun q hq => hY q (br_t (by decide) hq)))
  | succ d ih =>
    intro v hv c rc ad K hY hp
    have hv4 : v < 4 := by omega
    have v4 : ¬ (4 : Int32) ≤ nI v := nI_ge (b := 4) (by omega) (by omega)
    have ecv : (nI v).toNatClampNeg = v := nI_clamp (by omega)
    have hin : vp_in (nI v) 4 := vp_in_nI hv4 (by omega)
    rw [wX_deliver_47]
    refine br_f v4 (xa_i32 (by omega) (fun hb => And.intro hin (And.intro hin ?_)) (fun hb => nm_r (nI_1 v) (ih (v + 1) (by omega) c rc ad K (fun q hq => hY q (br_f v4 (ya_cho hv4 hf (fun a b => ?_) (fun _ => nm_r (nI_1 v) hq)))) hp)))
    · rw [da_hn2 hf hv4, Bool.and_eq_true, decide_eq_true_eq] at hb
      rw [ecv]
      have hg : ∀ i, da_b (rc v ||| x) i = true → da_b ce i = true := fun i z => by
        rw [da_or, Bool.or_eq_true] at z
        exact z.elim (kp_rc K hv4 i) (fun y => ((hx i).mp y).1)
      have kA := kp_A K hv4
      refine nm_e (xa_ap (rc := vp_updL rc v (rc v ||| x)) hv4 (by rw [pk_uLs]; exact kp_dg K.1 hg) (fun i hi => ?_) (fun a hA hm => nm_e (nm_r (nI_1 v) (ih (v + 1) (by omega) _ _ _ (kd_V K hb.2 hg ?_ hm) (fun q hq => hY q (br_f v4 (ya_cho hv4 hf (fun _ _ => ya_adm hf hv4 (kp_hz K hv4) (kp_dn K hv4) kA (Exists.intro 9 ?_)) (fun z => absurd ⟨hb.2, hb.1⟩ z)))) hp))))
      · rw [pk_uLs]
        have z := (kA i).mp hi
        exact ⟨by rw [da_or, z.1, Bool.true_or], z.2⟩
      · rw [pk_uLs] at hA; exact hA
      · rw [pk_uLs] at hA
        have := kd_y50 (q := q) (J := wY_deliver_23 q p0 (nI r) p2 (nI nw) (nI nf) (nI ns) (d + 1)) (p0 := p0) (x4 := c) (b := ad v) (cm := cm) (cr := cr) (lw := lw) (nw := nw) (ns := ns) K.1 hf hv4 hb.2 hr1 (by omega) hx hg hA hq 9 0 (rc v) (by omega) (by omega) (fun i => ⟨Or.inl, fun z => z.elim id (fun y => by have := ((hx i).mp y.1).2.1; omega)⟩)
        rw [du_sL] at this
        exact this
    · exfalso
      rw [da_hn2 hf hv4, b, decide_eq_true a] at hb
      exact absurd hb (by decide)
/-! advance -/
theorem ka_cnt {a : Int64} {r : Nat} (hr1 : 1 ≤ r) (hr8 : r ≤ 8) : da_n (da_b (a &&& dg_m r)) 64 = da_n (da_b ((a.toUInt64 >>> ((nI (8 * (r - 1))).toInt64.toUInt64 &&& Int64.toUInt64 63)).toInt64)) 8 := by
  rw [da_n_congr 8 (fun k _ => da_shr (show 8 * (r - 1) < 64 by omega) a k), ← da_n_win (da_b a) (b := 8 * (r - 1)) (by omega)]
  apply da_n_congr
  intro j _
  rw [da_and, dg_m_b (by omega)]
  exact congrArg (fun z => da_b a j && z) (decide_eq_decide.mpr (by omega))
theorem ka_K {v r : Nat} (K : dg_K nw nf ns ex ce es sg pa sp cr rc ad lw cw dl sl sq) (hr : r + 1 ≤ 2 * nw) : dg_K nw nf ns ex ce es sg pa sp (upd cr v (nI (r + 1))) rc ad lw cw dl sl sq := by
  refine ⟨K.1, fun w hw => ?_⟩
  by_cases e : w = v
  · subst e
    rw [pk_us]
    exact ⟨⟨r + 1, by omega, hr, rfl⟩, (K.2 w hw).2⟩
  · rw [pk_un e]
    exact K.2 w hw
theorem ka_y0 {q : Int32 → SY → Prop} {p0 : Int32} {n c v r : Nat} (K : dg_K nw nf ns ex ce es sg pa sp cr rc ad lw cw dl sl sq) (hN : dg_N nw nf ns) (hv : v < 4) (hr : cr v = nI r) (hr1 : 1 ≤ r) (hr2 : r ≤ 2 * nw) (h : ¬ (v ≠ nf ∧ bt p0 v = true) ∨ 2 * nw ≤ r ∨ ¬ 3 ≤ da_n (da_b (ad v &&& dg_m r)) 64)
    (k : wY_advance_4 q p0 (nI nw) (nI nf) (nI ns) n (nI c) (nI (v + 1)) sg cm es rc cr lw) : wY_advance_4 q p0 (nI nw) (nI nf) (nI ns) (n + 1) (nI c) (nI v) sg cm es rc cr lw := by
  obtain ⟨_, hn4, hf, hs⟩ := hN
  have ecv : (nI v).toNatClampNeg = v := nI_clamp (by omega)
  have v4 : ¬ (4 : Int32) ≤ nI v := nI_ge (b := 4) (by omega) (by omega)
  have hin : vp_in (nI v) 4 := vp_in_nI hv (by omega)
  have e2 : 2 * nI nw = nI (2 * nw) := by rw [show (2 : Int32) = nI 2 from rfl, pk_mul]
  have le := da_n_le (da_b (ad v &&& dg_m r)) 64
  have k' := nm_r (P := fun x => wY_advance_4 q p0 (nI nw) (nI nf) (nI ns) n (nI c) x sg cm es rc cr lw) (nI_1 v) k
  rw [wY_advance_4]
  refine br_f v4 (ya_adm hf hv (kp_hz K hv) (kp_dn K hv) (kp_A K hv) (And.intro hin ?_))
  rw [ecv, hr]
  refine ya_rid (by omega) (nm_e (ya_cho hv hf (fun a b => And.intro hin ?_) (fun _ => k')))
  rw [e2]
  refine pk_le (2 * nw) r (fun _ => k') (fun z => ya_cnt (pk_le 3 _ (fun y => ?_) (fun _ => k')))
  exfalso
  rcases h with h | h | h
  · exact h ⟨a, b⟩
  · omega
  · exact h y
theorem ka_y1 {q : Int32 → SY → Prop} {p0 : Int32} {n c v r : Nat} (K : dg_K nw nf ns ex ce es sg pa sp cr rc ad lw cw dl sl sq) (hN : dg_N nw nf ns) (hv : v < 4) (hr : cr v = nI r) (hr1 : 1 ≤ r) (hr2 : r < 2 * nw) (h : v ≠ nf ∧ bt p0 v = true) (h3 : 3 ≤ da_n (da_b (ad v &&& dg_m r)) 64)
    (k : wY_advance_4 q p0 (nI nw) (nI nf) (nI ns) n (nI (c + 1)) (nI (v + 1)) sg cm es rc (upd cr v (nI (r + 1))) lw) : wY_advance_4 q p0 (nI nw) (nI nf) (nI ns) (n + 1) (nI c) (nI v) sg cm es rc cr lw := by
  obtain ⟨_, hn4, hf, hs⟩ := hN
  have ecv : (nI v).toNatClampNeg = v := nI_clamp (by omega)
  have v4 : ¬ (4 : Int32) ≤ nI v := nI_ge (b := 4) (by omega) (by omega)
  have hin : vp_in (nI v) 4 := vp_in_nI hv (by omega)
  have e2 : 2 * nI nw = nI (2 * nw) := by rw [show (2 : Int32) = nI 2 from rfl, pk_mul]
  have le := da_n_le (da_b (ad v &&& dg_m r)) 64
  rw [wY_advance_4]
  refine br_f v4 (ya_adm hf hv (kp_hz K hv) (kp_dn K hv) (kp_A K hv) (And.intro hin ?_))
  rw [ecv, hr]
  refine ya_rid (by omega) (nm_e (ya_cho hv hf (fun a b => And.intro hin ?_) (fun z => absurd h z)))
  rw [e2]
  exact pk_le (2 * nw) r (fun z => absurd z (by omega)) (fun z => ya_cnt (pk_le 3 (da_n (da_b (ad v &&& dg_m r)) 64) (fun y => And.intro hin (And.intro hin (nm_r (e' := upd cr v (nI (r + 1))) (by rw [nI_1]) (nm_r (nI_1 c) (nm_r (nI_1 v) k))))) (fun y => absurd h3 (by omega))))
theorem ka_loop {post : Int32 → SX → Prop} {Y0 : (Int32 → SY → Prop) → Prop} {p0 : Int32} (hN : dg_N nw nf ns) :
    ∀ (d v : Nat), v + d = 4 → ∀ (c : Nat) (cr : Nat → Int32), dg_K nw nf ns ex ce es sg pa sp cr rc ad lw cw dl sl sq →
    (∀ q, wY_advance_4 q p0 (nI nw) (nI nf) (nI ns) (d + 1) (nI c) (nI v) sg cm es rc cr lw → Y0 q) →
    (∀ (c : Nat) (cr : Nat → Int32), dg_K nw nf ns ex ce es sg pa sp cr rc ad lw cw dl sl sq → (∀ q, q (nI c) (nI nw, nI nf, nI ns, sg, cm, es, rc, cr, lw) → Y0 q) → post (nI c) (nI nw, nI (2 * nw), nI nf, nI ns, ex, ce, cm, es, sg, pa, sp, cr, rc, ad, lw, cw, dl, sl, sq)) →
    wX_advance_11 post ((p0 &&& 15) &&& (((1 : Int32) <<< (nI nf &&& 31)) ^^^ (-1))) (nI nw) (nI (2 * nw)) (nI nf) (nI ns) ex ce (d + 1) (nI c) (nI v) cm es sg pa sp cr rc ad lw cw dl sl sq := by
  intro d
  have hN' := hN
  obtain ⟨_, hn4, hf, hs4⟩ := hN'
  induction d with
  | zero =>
    intro v hv c cr K hY hp
    have e : v = 4 := by omega
    subst e
    exact br_t (by decide) (hp c cr K (fun q hq => hY q (br_t (by decide) hq)))
  | succ d ih =>
    intro v hv c cr K hY hp
    have hv4 : v < 4 := by omega
    obtain ⟨r, hr1, hr2, hr⟩ := kp_r K hv4
    have v4 : ¬ (4 : Int32) ≤ nI v := nI_ge (b := 4) (by omega) (by omega)
    have ecv : (nI v).toNatClampNeg = v := nI_clamp (by omega)
    have hin : vp_in (nI v) 4 := vp_in_nI hv4 (by omega)
    have eb : 8 * (nI r - 1) = nI (8 * (r - 1)) := by
      rw [show (1 : Int32) = nI 1 from rfl, pk_sub hr1, show (8 : Int32) = nI 8 from rfl, pk_mul]
    have skip : (¬ (v ≠ nf ∧ bt p0 v = true) ∨ 2 * nw ≤ r ∨ ¬ 3 ≤ da_n (da_b (ad v &&& dg_m r)) 64) → wX_advance_11 post ((p0 &&& 15) &&& (((1 : Int32) <<< (nI nf &&& 31)) ^^^ (-1))) (nI nw) (nI (2 * nw)) (nI nf) (nI ns) ex ce (d + 1) (nI c) (nI (v + 1)) cm es sg pa sp cr rc ad lw cw dl sl sq := fun h =>
      ih (v + 1) (by omega) c cr K (fun q hq => hY q (ka_y0 K hN hv4 hr hr1 hr2 h hq)) hp
    rw [wX_advance_11]
    refine br_f v4 (xa_i32 (by omega) (fun hb => ?_) (fun hb => nm_r (nI_1 v) (skip (Or.inl (fun z => ?_)))))
    · rw [da_hn2 hf hv4, Bool.and_eq_true, decide_eq_true_eq] at hb
      unfold wpX_mayAdvance
      refine And.intro hin (nm_r (e' := nI r) (by rw [ecv, hr]) (pk_lt r (2 * nw) (fun hlt => And.intro hin ?_) (fun hge => br_t rfl (nm_r (nI_1 v) (skip (Or.inr (Or.inl hge)))))))
      rw [ecv, eb]
      have le := da_n_le (da_b (((ad v).toUInt64 >>> ((nI (8 * (r - 1))).toInt64.toUInt64 &&& Int64.toUInt64 63)).toInt64)) 8
      have ec := ka_cnt (a := ad v) hr1 (show r ≤ 8 by omega)
      refine xa_cnt ?_
      rw [← ec] at le ⊢
      exact (pk_lt (da_n (da_b (ad v &&& dg_m r)) 64) 3 (fun lt => br_t rfl (nm_r (nI_1 v) (skip (Or.inr (Or.inr (by omega)))))) (fun ge => br_f (by decide) (And.intro hin (And.intro hin (nm_r (e' := upd cr v (nI (r + 1))) (by rw [hr, nI_1]) (nm_r (nI_1 c) (nm_r (nI_1 v) (ih (v + 1) (by omega) (c + 1) _ (ka_K K (by omega)) (fun q hq => hY q (ka_y1 K hN hv4 hr hr1 hlt ⟨hb.2, hb.1⟩ (by omega) hq)) hp))))))))
    · rw [da_hn2 hf hv4, z.2, decide_eq_true z.1] at hb
      exact absurd hb (by decide)
end KD
end
section
/-! committing in lockstep -/
def kc_l (lw : Nat → Int32) (v g : Nat) : Nat → Int32 := if g = 0 then lw else upd lw v (nI g)
theorem kc_l0 {lw : Nat → Int32} {v : Nat} : kc_l lw v 0 = lw := if_pos rfl
theorem kc_l1 {lw : Nat → Int32} {v g : Nat} (h : g ≠ 0) : kc_l lw v g = upd lw v (nI g) := if_neg h
theorem kc_lu {lw : Nat → Int32} {v g : Nat} {x : Int32} : upd (kc_l lw v g) v x = upd lw v x := by
  by_cases h : g = 0
  · subst h; rw [kc_l0]
  · rw [kc_l1 h, du_u]
section KC
variable {nw nf ns : Nat} {ex ce : Int64} {cm : Nat → Int32} {es : Nat → Int64} {sg : Nat → Int32} {pa sp : Nat → Int64} {cr : Nat → Int32} {rc ad : Nat → Int64} {lw cw : Nat → Int32} {dl : Nat → Int64} {sl sq : Nat → Int32}
theorem kc_Wq {adv : Int64} {lwv cwv : Int32} {dlv : Int64} {slv : Int32} {s s' : Nat → Int32} (he : ∀ p, p < 64 → s' p = s p) (h : dg_W nw ns ce es pa sp adv lwv cwv dlv slv s) : dg_W nw ns ce es pa sp adv lwv cwv dlv slv s' := by
  obtain ⟨t, h1, h2, h3, h4, h5, h6, h7⟩ := h
  refine ⟨t, h1, h2, h3, h4, h5, h6, fun w hw i hi hf => ?_⟩
  have l1 := da_n_lt (f := dg_f (dg_P cwv (dg_l ns ce) pa) w) hi hf
  have l2 := dg_t64 (dg_P cwv (dg_l ns ce) pa) (w + 1)
  have l3 : dg_t (dg_P cwv (dg_l ns ce) pa) (w + 1) = dg_t (dg_P cwv (dg_l ns ce) pa) w + da_n (dg_f (dg_P cwv (dg_l ns ce) pa) w) 64 := rfl
  rw [he _ (by omega)]
  exact h7 w hw i hi hf
theorem kc_K {v g m : Nat} {c : Int32} {d : Int64} {s : Nat → Int32} (K : dg_K nw nf ns ex ce es sg pa sp cr rc ad lw cw dl sl sq) (H : dg_W1 nw ns ce es pa sp (ad v) (nI g) c d (nI m) (fun p => s (64 * v + p)) g) (hs : ∀ p, (p < 64 * v ∨ 64 * v + 64 ≤ p) → s p = sq p) :
    dg_K nw nf ns ex ce es sg pa sp cr rc ad (upd lw v (nI g)) (upd cw v c) (vp_updL dl v d) (upd sl v (nI m)) s := by
  refine ⟨K.1, fun w hw => ?_⟩
  obtain ⟨k1, k2, k3, k4, k5⟩ := K.2 w hw
  by_cases e : w = v
  · subst e
    rw [pk_us, pk_us, pk_us, pk_uLs]
    exact ⟨k1, k2, k3, k4, ⟨g, H⟩⟩
  · rw [pk_un e, pk_un e, pk_un e, pk_uLn e]
    exact ⟨k1, k2, k3, k4, kc_Wq (fun p hp => hs _ (by omega)) k5⟩
theorem kc_y35 {q : Int32 → SY → Prop} {J : Int32 → Int32 → (Nat → Int32) → (Nat → Int32) → (Nat → Int64) → (Nat → Int64) → (Nat → Int32) → (Nat → Int32) → Prop} {p0 x2 x4 m' : Int32} {v t : Nat} (K : dg_K nw nf ns ex ce es sg pa sp cr rc ad lw cw dl sl sq) (hN : dg_N nw nf ns) (hv : v < 4)
    (hd : ∀ post : Int32 → Prop, post m' → wpY_deliveredCount post (nI nw, nI nf, nI ns, sg, cm, es, rc, cr, kc_l lw v (dg_g (dg_u ns ce es (ad v)) t nw)) (nI v)) (k : J (x2 + (m' - x4)) (nI (v + 1)) sg cm es rc cr (kc_l lw v (dg_g (dg_u ns ce es (ad v)) t nw))) :
    ∀ (n w : Nat), nw < n + w → t ≤ w → w ≤ nw → wY_commit_35 q J p0 x2 (nI v) x4 (nI nw) (nI nf) (nI ns) n (nI (w + 1)) sg cm es rc cr (kc_l lw v (dg_g (dg_u ns ce es (ad v)) t w)) := by
  obtain ⟨_, hn4, hf, hs4⟩ := hN
  have ecv : (nI v).toNatClampNeg = v := nI_clamp (by omega)
  intro n
  induction n with
  | zero => intro w h1 h2; omega
  | succ n ih =>
    intro w hn htw hw
    rw [wY_commit_35]
    refine pk_lt nw (w + 1) (fun h => ?_) (fun h => ?_)
    · have e : w = nw := by omega
      subst e
      exact hd _ (nm_e (nm_r (nI_1 v) k))
    · refine ya_sup K.1 hf hs4 hv (by omega) (by omega) (kp_hz K hv) (kp_dn K hv) (kp_A K hv) (fun z => And.intro (vp_in_nI hv (by omega)) (nm_r (e' := kc_l lw v (dg_g (dg_u ns ce es (ad v)) t (w + 1))) ?_ (nm_r (nI_1 _) (ih (w + 1) (by omega) (by omega) (by omega))))) (fun z => nm_r (nI_1 _) ?_)
      · rw [ecv, kc_lu, dg_g_t (by omega) z, kc_l1 (by omega)]
      · have := ih (w + 1) (by omega) (by omega) (by omega)
        rw [dg_g_f z] at this
        exact this
theorem kc_y {q : Int32 → SY → Prop} {p0 c m' : Int32} {v t n : Nat} (K : dg_K nw nf ns ex ce es sg pa sp cr rc ad lw cw dl sl sq) (hN : dg_N nw nf ns) (hv : v < 4) (hc : v ≠ nf ∧ bt p0 v = true) (H : dg_W1 nw ns ce es pa sp (ad v) (lw v) (cw v) (dl v) (sl v) (fun p => sq (64 * v + p)) t)
    (hd : ∀ post : Int32 → Prop, post m' → wpY_deliveredCount post (nI nw, nI nf, nI ns, sg, cm, es, rc, cr, kc_l lw v (dg_g (dg_u ns ce es (ad v)) t nw)) (nI v))
    (k : wY_commit_4 q p0 (nI nw) (nI nf) (nI ns) n (c + (m' - sl v)) (nI (v + 1)) sg cm es rc cr (kc_l lw v (dg_g (dg_u ns ce es (ad v)) t nw))) : wY_commit_4 q p0 (nI nw) (nI nf) (nI ns) (n + 1) c (nI v) sg cm es rc cr lw := by
  have hN' := hN
  obtain ⟨_, hn4, hf, hs4⟩ := hN'
  have ecv : (nI v).toNatClampNeg = v := nI_clamp (by omega)
  have v4 : ¬ (4 : Int32) ≤ nI v := nI_ge (b := 4) (by omega) (by omega)
  obtain ⟨b1, b2, b3, b4, b5, b6, b7⟩ := H
  rw [wY_commit_4]
  refine br_f v4 (ya_cho hv hf (fun _ _ => yc_dcount K.1 hn4 hf hs4 hv hc.1 b1 b2 (fun z => (b3 z).1) b4 (And.intro (vp_in_nI hv (by omega)) (nm_r (e' := nI (t + 1)) (by rw [ecv, b2, nI_1]) (Exists.intro 6 ?_)))) (fun z => absurd hc z))
  rw [← b6]
  have := kc_y35 (q := q) (p0 := p0) (x2 := c) (x4 := sl v) (J := wY_commit_4 q p0 (nI nw) (nI nf) (nI ns) n) K hN hv hd k 6 t (by omega) (Nat.le_refl _) b1
  rw [dg_g_lo t (Nat.le_refl _), kc_l0] at this
  exact this
theorem kc_loop {post : Int32 → SX → Prop} {Y0 : (Int32 → SY → Prop) → Prop} {p0 : Int32} (hN : dg_N nw nf ns) :
    ∀ (d v : Nat), v + d = 4 → ∀ (c : Int32) (lw cw : Nat → Int32) (dl : Nat → Int64) (sl sq : Nat → Int32), dg_K nw nf ns ex ce es sg pa sp cr rc ad lw cw dl sl sq →
    (∀ q, wY_commit_4 q p0 (nI nw) (nI nf) (nI ns) (d + 1) c (nI v) sg cm es rc cr lw → Y0 q) →
    (∀ (c : Int32) (lw cw : Nat → Int32) (dl : Nat → Int64) (sl sq : Nat → Int32), dg_K nw nf ns ex ce es sg pa sp cr rc ad lw cw dl sl sq → (∀ q, q c (nI nw, nI nf, nI ns, sg, cm, es, rc, cr, lw) → Y0 q) → post c (nI nw, nI (2 * nw), nI nf, nI ns, ex, ce, cm, es, sg, pa, sp, cr, rc, ad, lw, cw, dl, sl, sq)) →
    wX_commit_11 post ((p0 &&& 15) &&& (((1 : Int32) <<< (nI nf &&& 31)) ^^^ (-1))) (d + 1) c (nI v) (nI nw) (nI (2 * nw)) (nI nf) (nI ns) ex ce cm es sg pa sp cr rc ad lw cw dl sl sq := by
  intro d
  have hN' := hN
  obtain ⟨_, hn4, hf, hs4⟩ := hN'
  induction d with
  | zero =>
    intro v hv c lw cw dl sl sq K hY hp
    have e : v = 4 := by omega
    subst e
    exact br_t (by decide) (hp c lw cw dl sl sq K (fun q hq => hY q (br_t (by decide) hq)))
  | succ d ih =>
    intro v hv c lw cw dl sl sq K hY hp
    have hv4 : v < 4 := by omega
    have v4 : ¬ (4 : Int32) ≤ nI v := nI_ge (b := 4) (by omega) (by omega)
    rw [wX_commit_11]
    refine br_f v4 (xa_i32 (by omega) (fun hb => ?_) (fun hb => nm_r (nI_1 v) (ih (v + 1) (by omega) c lw cw dl sl sq K (fun q hq => hY q (br_f v4 (ya_cho hv4 hf (fun a b => ?_) (fun _ => nm_r (nI_1 v) hq)))) hp)))
    · rw [da_hn2 hf hv4, Bool.and_eq_true, decide_eq_true_eq] at hb
      have hc : v ≠ nf ∧ bt p0 v = true := ⟨hb.2, hb.1⟩
      obtain ⟨t, H⟩ := kp_W K hv4
      have H' := H
      obtain ⟨b1, b2, b3, b4, b5, b6, b7⟩ := H'
      refine xc_for hn4 hs4 hv4 K.1 (kp_ad K hv4) H (fun g0 => nm_e (nm_r (nI_1 v) (ih (v + 1) (by omega) _ lw cw dl sl sq K (fun q hq => hY q (kc_y (m' := sl v) K hN hv4 hc H (fun post hpo => ?_) ?_)) hp)))
        (fun g c' d' s m hg g0 H1 hs => nm_e (nm_r (nI_1 v) (ih (v + 1) (by omega) _ _ _ _ _ _ (kc_K K H1 hs) (fun q hq => hY q (kc_y (m' := nI m) K hN hv4 hc H (fun post hpo => ?_) ?_)) hp)))
      · rw [g0, kc_l0]
        rw [b6] at hpo
        exact yc_dcount K.1 hn4 hf hs4 hv4 hc.1 b1 b2 (fun z => (b3 z).1) b4 hpo
      · rw [g0, kc_l0, Int32.sub_self]
        exact hq
      · rw [hg, kc_l1 g0]
        obtain ⟨e1, e2, e3, e4, e5, e6, e7⟩ := H1
        rw [e6] at hpo
        exact yc_dcount K.1 hn4 hf hs4 hv4 hc.1 e1 pk_us (fun z => (e3 z).1) e4 hpo
      · rw [hg, kc_l1 g0]
        exact hq
    · exfalso
      rw [da_hn2 hf hv4, b, decide_eq_true a] at hb
      exact absurd hb (by decide)
end KC
end
section
/-! the relation; the constructors; walks of the queries -/
def kr_J (nw nf ns : Nat) (u : SX) (v : SY) : Prop := match u with
  | (wv, rn, fa, fi, ex, ce, cm, es, sg, pa, sp, cr, rc, ad, lw, cw, dl, sl, sq) => (wv = nI nw ∧ rn = nI (2 * nw) ∧ fa = nI nf ∧ fi = nI ns) ∧ v = (wv, fa, fi, sg, cm, es, rc, cr, lw) ∧ dg_N nw nf ns ∧ dg_K nw nf ns ex ce es sg pa sp cr rc ad lw cw dl sl sq
/-- the relation at the head of a turn: Y's arrays are X's own, and X's caches are what Y would reckon -/
def i_Rel (k : Nat) (u : SX) (v : SY) : Prop := ∃ nw nf ns, kr_J nw nf ns u v
theorem kr_i {k nw nf ns : Nat} {ex ce : Int64} {cm : Nat → Int32} {es : Nat → Int64} {sg : Nat → Int32} {pa sp : Nat → Int64} {cr : Nat → Int32} {rc ad : Nat → Int64} {lw cw : Nat → Int32} {dl : Nat → Int64} {sl sq : Nat → Int32} (N : dg_N nw nf ns) (K : dg_K nw nf ns ex ce es sg pa sp cr rc ad lw cw dl sl sq) : i_Rel k (nI nw, nI (2 * nw), nI nf, nI ns, ex, ce, cm, es, sg, pa, sp, cr, rc, ad, lw, cw, dl, sl, sq) (nI nw, nI nf, nI ns, sg, cm, es, rc, cr, lw) :=
  ⟨nw, nf, ns, And.intro ⟨rfl, rfl, rfl, rfl⟩ ⟨rfl, N, K⟩⟩
theorem kr_el {k : Nat} {P : SX → SY → Prop} {u : SX} {v : SY} (h : ∀ (nw nf ns : Nat) (ex ce : Int64) (cm : Nat → Int32) (es : Nat → Int64) (sg : Nat → Int32) (pa sp : Nat → Int64) (cr : Nat → Int32) (rc ad : Nat → Int64) (lw cw : Nat → Int32) (dl : Nat → Int64) (sl sq : Nat → Int32), dg_N nw nf ns → dg_K nw nf ns ex ce es sg pa sp cr rc ad lw cw dl sl sq → P (nI nw, nI (2 * nw), nI nf, nI ns, ex, ce, cm, es, sg, pa, sp, cr, rc, ad, lw, cw, dl, sl, sq) (nI nw, nI nf, nI ns, sg, cm, es, rc, cr, lw)) (I : i_Rel k u v) : P u v := by
  obtain ⟨wv, rn, fa, fi, ex, ce, cm, es, sg, pa, sp, cr, rc, ad, lw, cw, dl, sl, sq⟩ := u
  obtain ⟨nw, nf, ns, ⟨e1, e2, e3, e4⟩, e5, N, K⟩ := I
  subst e1 e2 e3 e4 e5
  exact h nw nf ns ex ce cm es sg pa sp cr rc ad lw cw dl sl sq N K
/-! the constructors -/
def ki_l (x a b : Int32) : Int32 := if a ≤ x then (if x ≤ b then x else b) else a
theorem ki_tt {x a b : Int32} (h : a ≤ x) (h2 : x ≤ b) : ki_l x a b = x := by unfold ki_l; rw [if_pos h, if_pos h2]
theorem ki_tf {x a b : Int32} (h : a ≤ x) (h2 : ¬ x ≤ b) : ki_l x a b = b := by unfold ki_l; rw [if_pos h, if_neg h2]
theorem ki_f {x a b : Int32} (h : ¬ a ≤ x) : ki_l x a b = a := by unfold ki_l; rw [if_neg h]
theorem ki_in {x : Int32} {a b : Nat} (hab : a ≤ b) (hb : b < 100) : ∃ n, a ≤ n ∧ n ≤ b ∧ ki_l x (nI a) (nI b) = nI n := by
  by_cases h : nI a ≤ x
  · by_cases h2 : x ≤ nI b
    · rw [ki_tt h h2]
      have h0 : ¬ x < 0 := by
        intro z
        have := Int32.lt_of_le_of_lt h z
        exact nI_pos (by omega) this
      obtain ⟨j, hj, rfl⟩ := nI_of h0
      rw [nI_leI (by omega) hj] at h
      rw [nI_leI hj (by omega)] at h2
      exact ⟨j, h, h2, rfl⟩
    · exact ⟨b, hab, Nat.le_refl _, ki_tf h h2⟩
  · exact ⟨a, Nat.le_refl _, hab, ki_f h⟩
theorem ki_X {post : Int32 → Prop} {u : SX} {x a b : Int32} (h : post (ki_l x a b)) : wpX_clamp post u x a b := by
  obtain ⟨_, _, _, _, _, _, _, _, _, _, _, _, _, _, _, _, _, _, _⟩ := u
  unfold wpX_clamp
  refine br_c (fun h1 => br_c (fun h2 => ?_) (fun h2 => ?_)) (fun h1 => ?_)
  · rw [ki_tt h1 h2] at h; exact h
  · rw [ki_tf h1 h2] at h; exact h
  · rw [ki_f h1] at h; exact h
theorem ki_91 {post : SY → Prop} {x3 z0 wv fa fi : Int32} {sg cm : Nat → Int32} {es rc : Nat → Int64} {cr lw : Nat → Int32} (h : ∃ n, wY_init_119 post wv z0 (ki_l x3 0 3) n 0 sg cm es rc cr lw) : wY_init_91 post x3 z0 wv fa fi sg cm es rc cr lw := by
  unfold wY_init_91
  refine br_c (fun h1 => br_c (fun h2 => ?_) (fun h2 => ?_)) (fun h1 => ?_)
  · rw [ki_tt h1 h2] at h; exact h
  · rw [ki_tf h1 h2] at h; exact h
  · rw [ki_f h1] at h; exact h
theorem ki_69 {post : SY → Prop} {x2 x3 z0 wv fa fi : Int32} {sg cm : Nat → Int32} {es rc : Nat → Int64} {cr lw : Nat → Int32} (h : ∃ n, wY_init_119 post z0 (ki_l x2 0 3) (ki_l x3 0 3) n 0 sg cm es rc cr lw) : wY_init_69 post x2 x3 z0 wv fa fi sg cm es rc cr lw := by
  unfold wY_init_69
  refine br_c (fun h1 => br_c (fun h2 => ki_91 ?_) (fun h2 => ki_91 ?_)) (fun h1 => ki_91 ?_)
  · rw [ki_tt h1 h2] at h; exact h
  · rw [ki_tf h1 h2] at h; exact h
  · rw [ki_f h1] at h; exact h
theorem ki_Y {post : SY → Prop} {x1 x2 x3 : Int32} (h : ∃ n, wY_init_119 post (ki_l x1 2 4) (ki_l x2 0 3) (ki_l x3 0 3) n 0 (fun _ => 0) (fun _ => 0) (fun _ => 0) (fun _ => 0) (fun _ => 0) (fun _ => 0)) : wpY_init post x1 x2 x3 := by
  unfold wpY_init
  refine br_c (fun h1 => br_c (fun h2 => ki_69 ?_) (fun h2 => ki_69 ?_)) (fun h1 => ki_69 ?_)
  · rw [ki_tt h1 h2] at h; exact h
  · rw [ki_tf h1 h2] at h; exact h
  · rw [ki_f h1] at h; exact h
def ki_c : Nat → Nat → Int32
  | 0 => fun _ => 0
  | n + 1 => upd (ki_c n) n 1
theorem ki_X148 {post : SX → Prop} {wv rn fa fi : Int32} {ex ce : Int64} {cm : Nat → Int32} {es : Nat → Int64} {sg : Nat → Int32} {pa sp : Nat → Int64} {rc ad : Nat → Int64} {lw cw : Nat → Int32} {dl : Nat → Int64} {sl sq : Nat → Int32} (h : post (wv, rn, fa, fi, ex, ce, cm, es, sg, pa, sp, ki_c 4, rc, ad, lw, cw, dl, sl, sq)) : ∀ d v, v + d = 4 → wX_init_148 post wv rn fa fi ex ce (d + 1) (nI v) cm es sg pa sp (ki_c v) rc ad lw cw dl sl sq := by
  intro d
  induction d with
  | zero =>
    intro v hv
    have e : v = 4 := by omega
    subst e
    exact br_t (by decide) h
  | succ d ih =>
    intro v hv
    have v4 : ¬ (4 : Int32) ≤ nI v := nI_ge (b := 4) (by omega) (by omega)
    rw [wX_init_148]
    exact br_f v4 (And.intro (vp_in_nI (by omega) (by omega)) (nm_r (e' := ki_c (v + 1)) (by rw [nI_clamp (by omega)]; rfl) (nm_r (nI_1 v) (ih (v + 1) (by omega)))))
theorem ki_Y119 {post : SY → Prop} {wv fa fi : Int32} {sg cm : Nat → Int32} {es rc : Nat → Int64} {lw : Nat → Int32} (h : post (wv, fa, fi, sg, cm, es, rc, ki_c 4, lw)) : ∀ d v, v + d = 4 → wY_init_119 post wv fa fi (d + 1) (nI v) sg cm es rc (ki_c v) lw := by
  intro d
  induction d with
  | zero =>
    intro v hv
    have e : v = 4 := by omega
    subst e
    exact br_t (by decide) h
  | succ d ih =>
    intro v hv
    have v4 : ¬ (4 : Int32) ≤ nI v := nI_ge (b := 4) (by omega) (by omega)
    rw [wY_init_119]
    exact br_f v4 (And.intro (vp_in_nI (by omega) (by omega)) (nm_r (e' := ki_c (v + 1)) (by rw [nI_clamp (by omega)]; rfl) (nm_r (nI_1 v) (ih (v + 1) (by omega)))))
theorem ki_K {nw nf ns : Nat} (N : dg_N nw nf ns) : dg_K nw nf ns 0 0 (fun _ => 0) (fun _ => 0) (fun _ => 0) (fun _ => 0) (ki_c 4) (fun _ => 0) (fun _ => 0) (fun _ => 0) (fun _ => 0) (fun _ => 0) (fun _ => 0) (fun _ => 0) := by
  have no : ∀ i, ¬ da_b 0 i = true := fun i z => by rw [da_0] at z; exact absurd z (by decide)
  have nb : ∀ i, ¬ bt 0 i = true := fun i z => by rw [b_0] at z; exact absurd z (by decide)
  refine ⟨fun i hi => ⟨fun k _ => b_0 k, ⟨fun z => absurd z (no i), fun z => absurd rfl z⟩, ⟨fun z => absurd z (no i), fun z => ?_⟩, fun z => absurd z (no i), fun z => absurd z (no i), fun v _ _ z => absurd z (nb v), fun v _ _ _ z => absurd z (nb v), fun _ => rfl, fun z => absurd z (no i)⟩, fun v hv => ?_⟩
  · have := da_n_zero (f := bt 0) 4 (fun k _ => b_0 k)
    have z' : 3 ≤ da_n (bt 0) 4 := z
    omega
  · have c1 : ki_c 4 v = nI 1 := by
      rcases (by omega : v = 0 ∨ v = 1 ∨ v = 2 ∨ v = 3) with e | e | e | e <;> subst e <;> rfl
    refine ⟨⟨1, by omega, by have := N.1; omega, c1⟩, fun _ => rfl, fun i z => absurd z (no i), fun i => ⟨fun z => absurd z (no i), fun z => absurd z.1 (no i)⟩, ⟨0, by omega, rfl, fun z => absurd z (by omega), fun k => b_0 k, fun i => da_0 i, rfl, fun w hw => absurd hw (by omega)⟩⟩
/-! queries -/
section KQ
variable {nw nf ns : Nat} {sg cm : Nat → Int32} {es rc : Nat → Int64} {cr lw : Nat → Int32}
theorem kq_adm0 {post : Int64 → Prop} {x : Int32} (h : x < 0 ∨ 3 < x ∨ x = nI nf) (hp : post 0) : ∀ (n i : Nat), 64 < n + i → i ≤ 64 → wY_admitted_5 post x (nI nw) (nI nf) (nI ns) sg cm es rc cr lw n 0 (nI i) := by
  intro n
  induction n with
  | zero => intro i h1 h2; omega
  | succ n ih =>
    intro i hn hi
    rw [wY_admitted_5]
    exact pk_le 64 i (fun _ => hp) (fun z => ya_hon0 h (nm_r (nI_1 i) (ih (i + 1) (by omega) (by omega))))
end KQ
theorem kq_f2 : ∀ i, i < 64 → (nI i >>> ((1 : Int32) &&& 31)) &&& 3 = nI (i / 2 % 4) ∧ (nI i / 2) - (nI i / 2) / 4 * 4 = nI (i / 2 % 4) := by decide +kernel
end
section
theorem i_up {k : Nat} {u : SX} {v : SY} (h : i_Rel k u v) : i_Rel (k + 5) u v := h
theorem i_vc0 (k0 : Int32) (k1 : Int32) (k2 : Int32) : wpX_init (fun u => wpY_init (fun v => i_Rel 3 u v) k0 k1 k2) k0 k1 k2 := by
  obtain ⟨nw, n1, n2, en⟩ := ki_in (x := k0) (a := 2) (b := 4) (by omega) (by omega)
  obtain ⟨nf, f1, f2, ef⟩ := ki_in (x := k1) (a := 0) (b := 3) (by omega) (by omega)
  obtain ⟨ns, s1, s2, es⟩ := ki_in (x := k2) (a := 0) (b := 3) (by omega) (by omega)
  have en : ki_l k0 2 4 = nI nw := en
  have ef : ki_l k1 0 3 = nI nf := ef
  have es : ki_l k2 0 3 = nI ns := es
  have N : dg_N nw nf ns := ⟨n1, n2, by omega, by omega⟩
  have e2 : 2 * nI nw = nI (2 * nw) := pk_mul 2 nw
  unfold wpX_init
  refine ki_X ?_
  rw [en]
  refine nm_r e2 (ki_X ?_)
  rw [ef]
  refine ki_X ?_
  rw [es]
  refine Exists.intro 5 (ki_X148 (ki_Y ?_) 4 0 rfl)
  rw [en, ef, es]
  exact Exists.intro 5 (ki_Y119 (kr_i N (ki_K N)) 4 0 rfl)
theorem i_vc_propose {k : Nat} {u : SX} {v : SY} (I : i_Rel k u v) (hk : k + 5 ≤ 2563) (v1 : Int32) (v2 : Int32) : wpX_propose (fun r u' => wpY_propose (fun r' v' => r' = r ∧ i_Rel (k + 5) u' v') v v1 v2) u v1 v2 := by
  refine kr_el (P := fun u v => wpX_propose (fun r u' => wpY_propose (fun r' v' => r' = r ∧ i_Rel (k + 5) u' v') v v1 v2) u v1 v2) ?_ I
  intro nw nf ns ex ce cm es sg pa sp cr rc ad lw cw dl sl sq N K
  unfold wpX_propose wpX_honestOf
  dsimp only
  exact Exists.intro 5 (kp_prop (Y0 := fun q => wpY_propose q (nI nw, nI nf, nI ns, sg, cm, es, rc, cr, lw) v1 v2) N 4 0 rfl 0 ex cm es sg K (fun q h => Exists.intro 5 h) (fun c ex cm es sg K' hY => hY _ ⟨rfl, kr_i N K'⟩))
theorem i_vc_forge {k : Nat} {u : SX} {v : SY} (I : i_Rel k u v) (hk : k + 5 ≤ 2563) (v1 : Int32) (v2 : Int32) (a2 : Int64) : wpX_forge (fun r u' => wpY_forge (fun r' v' => r' = r ∧ i_Rel (k + 5) u' v') v v1 v2 a2) u v1 v2 a2 := by
  refine kr_el (P := fun u v => wpX_forge (fun r u' => wpY_forge (fun r' v' => r' = r ∧ i_Rel (k + 5) u' v') v v1 v2 a2) u v1 v2 a2) ?_ I
  intro nw nf ns ex ce cm es sg pa sp cr rc ad lw cw dl sl sq N K
  have N' := N
  obtain ⟨_, hn4, hf, hs4⟩ := N'
  unfold wpX_forge wpY_forge
  dsimp only
  refine xa_idr hn4 (fun i hi e => ?_) (fun h => ya_idr0 hn4 h ⟨rfl, kr_i N K⟩)
  subst e
  have i64 : i < 64 := by omega
  have F := kq_f2 i i64
  have ec : (nI i).toNatClampNeg = i := nI_clamp (by omega)
  have hin : vp_in (nI i) 64 := vp_in_nI i64 (by omega)
  rw [F.1]
  refine pk_eq (i / 2 % 4) nf (fun e => xa_has i64 (fun hx => ?_) (fun hx => xa_make i64 ?_)) (fun e => ya_idr1 hn4 hi (And.intro (by decide) (And.intro (by decide) ?_)))
  · refine ya_idr1 hn4 hi (And.intro (by decide) (And.intro (by decide) ?_))
    rw [F.2, ec]
    exact br_t (by rw [e]) (And.intro hin (br_f ((dg_ex K.1 i64).mp hx) ⟨rfl, kr_i N K⟩))
  · refine ya_idr1 hn4 hi (And.intro (by decide) (And.intro (by decide) ?_))
    rw [F.2, ec]
    exact br_t (by rw [e]) (And.intro hin (br_t (dg_n0 K.1 i64 hx) (And.intro hin (nm_e (And.intro hin (nm_e (And.intro hin (nm_e ⟨rfl, kr_i N (kp_make K a2 i64 hx e (fun z => absurd rfl z))⟩))))))))
  · rw [F.2, ec]
    exact br_f (by rw [nI_eq (by omega) (by omega)]; exact e) ⟨rfl, kr_i N K⟩
theorem i_vc_sign {k : Nat} {u : SX} {v : SY} (I : i_Rel k u v) (hk : k + 5 ≤ 2563) (v1 : Int32) (v2 : Int32) (v3 : Int32) : wpX_sign (fun r u' => wpY_sign (fun r' v' => r' = r ∧ i_Rel (k + 5) u' v') v v1 v2 v3) u v1 v2 v3 := by
  refine kr_el (P := fun u v => wpX_sign (fun r u' => wpY_sign (fun r' v' => r' = r ∧ i_Rel (k + 5) u' v') v v1 v2 v3) u v1 v2 v3) ?_ I
  intro nw nf ns ex ce cm es sg pa sp cr rc ad lw cw dl sl sq N K
  have N' := N
  obtain ⟨_, hn4, hf, hs4⟩ := N'
  have e2 : 2 * nI nw = nI (2 * nw) := pk_mul 2 nw
  unfold wpX_sign
  dsimp only
  refine xa_rdr hn4 (fun r h1 h2 e => ?_) (fun h => ?_)
  · subst e
    have eb : 8 * (nI r - 1) = nI (8 * (r - 1)) := by
      rw [show (1 : Int32) = nI 1 from rfl, pk_sub h1, show (8 : Int32) = nI 8 from rfl, pk_mul]
    refine nm_r eb (Exists.intro 5 (ks_out (Y0 := fun q => wpY_sign q (nI nw, nI nf, nI ns, sg, cm, es, rc, cr, lw) v1 (nI r) v3) N h1 h2 4 0 rfl 0 ce sg pa sp K (fun q h => ?_) (fun c ce sg pa sp K' hY => hY _ ⟨rfl, kr_i N K'⟩)))
    unfold wpY_sign
    dsimp only
    rw [e2]
    exact br_f (nI_nlt (b := 1) h1 (by omega)) (br_t (nI_le h2 (by omega)) (Exists.intro 5 h))
  · unfold wpY_sign
    dsimp only
    rw [e2]
    rcases h with z | z
    · exact br_t z ⟨rfl, kr_i N K⟩
    · exact br_c (fun _ => ⟨rfl, kr_i N K⟩) (fun _ => br_f (fun y => Int32.lt_irrefl (Int32.lt_of_lt_of_le z y)) ⟨rfl, kr_i N K⟩)
theorem i_vc_deliver {k : Nat} {u : SX} {v : SY} (I : i_Rel k u v) (hk : k + 5 ≤ 2563) (v1 : Int32) (v2 : Int32) (v3 : Int32) : wpX_deliver (fun r u' => wpY_deliver (fun r' v' => r' = r ∧ i_Rel (k + 5) u' v') v v1 v2 v3) u v1 v2 v3 := by
  refine kr_el (P := fun u v => wpX_deliver (fun r u' => wpY_deliver (fun r' v' => r' = r ∧ i_Rel (k + 5) u' v') v v1 v2 v3) u v1 v2 v3) ?_ I
  intro nw nf ns ex ce cm es sg pa sp cr rc ad lw cw dl sl sq N K
  have N' := N
  obtain ⟨_, hn4, hf, hs4⟩ := N'
  have e2 : 2 * nI nw = nI (2 * nw) := pk_mul 2 nw
  unfold wpX_deliver
  dsimp only
  refine xa_rdr hn4 (fun r h1 h2 e => ?_) (fun h => ?_)
  · subst e
    have eb : 8 * (nI r - 1) = nI (8 * (r - 1)) := by
      rw [show (1 : Int32) = nI 1 from rfl, pk_sub h1, show (8 : Int32) = nI 8 from rfl, pk_mul]
    rw [eb]
    unfold wpX_honestOf
    dsimp only
    refine nm_e (nm_e (Exists.intro 5 (kd_loop (Y0 := fun q => wpY_deliver q (nI nw, nI nf, nI ns, sg, cm, es, rc, cr, lw) v1 (nI r) v3) N h1 h2 (kd_ar h1 (by omega)) 4 0 rfl 0 rc ad K (fun q h => ?_) (fun c rc ad K' hY => hY _ ⟨rfl, kr_i N K'⟩))))
    unfold wpY_deliver
    dsimp only
    rw [e2]
    exact br_f (nI_nlt (b := 1) h1 (by omega)) (br_t (nI_le h2 (by omega)) (Exists.intro 5 h))
  · unfold wpY_deliver
    dsimp only
    rw [e2]
    rcases h with z | z
    · exact br_t z ⟨rfl, kr_i N K⟩
    · exact br_c (fun _ => ⟨rfl, kr_i N K⟩) (fun _ => br_f (fun y => Int32.lt_irrefl (Int32.lt_of_lt_of_le z y)) ⟨rfl, kr_i N K⟩)
theorem i_vc_advance {k : Nat} {u : SX} {v : SY} (I : i_Rel k u v) (hk : k + 5 ≤ 2563) (v1 : Int32) : wpX_advance (fun r u' => wpY_advance (fun r' v' => r' = r ∧ i_Rel (k + 5) u' v') v v1) u v1 := by
  refine kr_el (P := fun u v => wpX_advance (fun r u' => wpY_advance (fun r' v' => r' = r ∧ i_Rel (k + 5) u' v') v v1) u v1) ?_ I
  intro nw nf ns ex ce cm es sg pa sp cr rc ad lw cw dl sl sq N K
  unfold wpX_advance wpX_honestOf
  dsimp only
  exact Exists.intro 5 (ka_loop (Y0 := fun q => wpY_advance q (nI nw, nI nf, nI ns, sg, cm, es, rc, cr, lw) v1) N 4 0 rfl 0 cr K (fun q h => Exists.intro 5 h) (fun c cr K' hY => hY _ ⟨rfl, kr_i N K'⟩))
theorem i_vc_commit {k : Nat} {u : SX} {v : SY} (I : i_Rel k u v) (hk : k + 5 ≤ 2563) (v1 : Int32) : wpX_commit (fun r u' => wpY_commit (fun r' v' => r' = r ∧ i_Rel (k + 5) u' v') v v1) u v1 := by
  refine kr_el (P := fun u v => wpX_commit (fun r u' => wpY_commit (fun r' v' => r' = r ∧ i_Rel (k + 5) u' v') v v1) u v1) ?_ I
  intro nw nf ns ex ce cm es sg pa sp cr rc ad lw cw dl sl sq N K
  unfold wpX_commit wpX_honestOf
  dsimp only
  exact Exists.intro 5 (kc_loop (Y0 := fun q => wpY_commit q (nI nw, nI nf, nI ns, sg, cm, es, rc, cr, lw) v1) N 4 0 rfl 0 lw cw dl sl sq K (fun q h => Exists.intro 5 h) (fun c lw cw dl sl sq K' hY => hY _ ⟨rfl, kr_i N K'⟩))
theorem i_vc_signatures {k : Nat} {u : SX} {v : SY} (I : i_Rel k u v) (hk : k + 5 ≤ 2563) (v1 : Int32) : wpX_signatures (fun r => wpY_signatures (fun r' => r' = r ∧ i_Rel (k + 5) u v) v v1) u v1 := by
  refine kr_el (P := fun u v => wpX_signatures (fun r => wpY_signatures (fun r' => r' = r ∧ i_Rel (k + 5) u v) v v1) u v1) ?_ I
  intro nw nf ns ex ce cm es sg pa sp cr rc ad lw cw dl sl sq N K
  have hn4 := N.2.1
  unfold wpX_signatures wpY_signatures
  dsimp only
  refine xa_idr hn4 (fun i hi e => ?_) (fun h => ya_idr0 hn4 h ⟨rfl, kr_i N K⟩)
  subst e
  have hin : vp_in (nI i) 64 := vp_in_nI (by omega) (by omega)
  exact And.intro hin (ya_idr1 hn4 hi (And.intro hin ⟨rfl, kr_i N K⟩))
theorem i_vc_edges {k : Nat} {u : SX} {v : SY} (I : i_Rel k u v) (hk : k + 5 ≤ 2563) (v1 : Int32) : wpX_edges (fun r => wpY_edges (fun r' => r' = r ∧ i_Rel (k + 5) u v) v v1) u v1 := by
  refine kr_el (P := fun u v => wpX_edges (fun r => wpY_edges (fun r' => r' = r ∧ i_Rel (k + 5) u v) v v1) u v1) ?_ I
  intro nw nf ns ex ce cm es sg pa sp cr rc ad lw cw dl sl sq N K
  have hn4 := N.2.1
  unfold wpX_edges wpY_edges
  dsimp only
  refine xa_idr hn4 (fun i hi e => ?_) (fun h => ya_idr0 hn4 h ⟨rfl, kr_i N K⟩)
  subst e
  have hin : vp_in (nI i) 64 := vp_in_nI (by omega) (by omega)
  exact And.intro hin (ya_idr1 hn4 hi (And.intro hin ⟨rfl, kr_i N K⟩))
theorem i_vc_command {k : Nat} {u : SX} {v : SY} (I : i_Rel k u v) (hk : k + 5 ≤ 2563) (v1 : Int32) : wpX_command (fun r => wpY_command (fun r' => r' = r ∧ i_Rel (k + 5) u v) v v1) u v1 := by
  refine kr_el (P := fun u v => wpX_command (fun r => wpY_command (fun r' => r' = r ∧ i_Rel (k + 5) u v) v v1) u v1) ?_ I
  intro nw nf ns ex ce cm es sg pa sp cr rc ad lw cw dl sl sq N K
  have hn4 := N.2.1
  unfold wpX_command wpY_command
  dsimp only
  refine xa_idr hn4 (fun i hi e => ?_) (fun h => ya_idr0 hn4 h ⟨rfl, kr_i N K⟩)
  subst e
  have hin : vp_in (nI i) 64 := vp_in_nI (by omega) (by omega)
  exact And.intro hin (ya_idr1 hn4 hi (And.intro hin ⟨rfl, kr_i N K⟩))
theorem i_vc_history {k : Nat} {u : SX} {v : SY} (I : i_Rel k u v) (hk : k + 5 ≤ 2563) (v1 : Int32) : wpX_history (fun r => wpY_history (fun r' => r' = r ∧ i_Rel (k + 5) u v) v v1) u v1 := by
  refine kr_el (P := fun u v => wpX_history (fun r => wpY_history (fun r' => r' = r ∧ i_Rel (k + 5) u v) v v1) u v1) ?_ I
  intro nw nf ns ex ce cm es sg pa sp cr rc ad lw cw dl sl sq N K
  have hn4 := N.2.1
  unfold wpX_history
  dsimp only
  refine xa_idr hn4 (fun i hi e => ?_) (fun h => ?_)
  · subst e
    have hin : vp_in (nI i) 64 := vp_in_nI (by omega) (by omega)
    refine And.intro hin (yc_hist K.1 hn4 hi ⟨?_, kr_i N K⟩)
    rw [nI_clamp (by omega)]
  · unfold wpY_history
    exact ya_idr0 hn4 h ⟨rfl, kr_i N K⟩
theorem i_vc_round {k : Nat} {u : SX} {v : SY} (I : i_Rel k u v) (hk : k + 5 ≤ 2563) (v1 : Int32) : wpX_round (fun r => wpY_round (fun r' => r' = r ∧ i_Rel (k + 5) u v) v v1) u v1 := by
  refine kr_el (P := fun u v => wpX_round (fun r => wpY_round (fun r' => r' = r ∧ i_Rel (k + 5) u v) v v1) u v1) ?_ I
  intro nw nf ns ex ce cm es sg pa sp cr rc ad lw cw dl sl sq N K
  have hf := N.2.2.1
  unfold wpX_round wpY_round
  dsimp only
  refine xa_ish hf (fun w hw hn e => ?_) (fun h => ya_hon0 h ⟨rfl, kr_i N K⟩)
  subst e
  have hin : vp_in (nI w) 4 := vp_in_nI hw (by omega)
  exact And.intro hin (ya_hon1 hw hf hn (And.intro hin ⟨rfl, kr_i N K⟩))
theorem i_vc_received {k : Nat} {u : SX} {v : SY} (I : i_Rel k u v) (hk : k + 5 ≤ 2563) (v1 : Int32) : wpX_received (fun r => wpY_received (fun r' => r' = r ∧ i_Rel (k + 5) u v) v v1) u v1 := by
  refine kr_el (P := fun u v => wpX_received (fun r => wpY_received (fun r' => r' = r ∧ i_Rel (k + 5) u v) v v1) u v1) ?_ I
  intro nw nf ns ex ce cm es sg pa sp cr rc ad lw cw dl sl sq N K
  have hf := N.2.2.1
  unfold wpX_received wpY_received
  dsimp only
  refine xa_ish hf (fun w hw hn e => ?_) (fun h => ya_hon0 h ⟨rfl, kr_i N K⟩)
  subst e
  have hin : vp_in (nI w) 4 := vp_in_nI hw (by omega)
  exact And.intro hin (ya_hon1 hw hf hn (And.intro hin ⟨rfl, kr_i N K⟩))
theorem i_vc_admitted {k : Nat} {u : SX} {v : SY} (I : i_Rel k u v) (hk : k + 5 ≤ 2563) (v1 : Int32) : wpX_admitted (fun r => wpY_admitted (fun r' => r' = r ∧ i_Rel (k + 5) u v) v v1) u v1 := by
  refine kr_el (P := fun u v => wpX_admitted (fun r => wpY_admitted (fun r' => r' = r ∧ i_Rel (k + 5) u v) v v1) u v1) ?_ I
  intro nw nf ns ex ce cm es sg pa sp cr rc ad lw cw dl sl sq N K
  have hf := N.2.2.1
  unfold wpX_admitted
  dsimp only
  refine xa_ish hf (fun w hw hn e => ?_) (fun h => Exists.intro 65 (kq_adm0 h ⟨rfl, kr_i N K⟩ 65 0 (by omega) (by omega)))
  subst e
  refine And.intro (vp_in_nI hw (by omega)) (ya_adm hf hw (kp_hz K hw) (kp_dn K hw) (kp_A K hw) ⟨?_, kr_i N K⟩)
  rw [nI_clamp (by omega)]
theorem i_vc_deliveredCount {k : Nat} {u : SX} {v : SY} (I : i_Rel k u v) (hk : k + 5 ≤ 2563) (v1 : Int32) : wpX_deliveredCount (fun r => wpY_deliveredCount (fun r' => r' = r ∧ i_Rel (k + 5) u v) v v1) u v1 := by
  refine kr_el (P := fun u v => wpX_deliveredCount (fun r => wpY_deliveredCount (fun r' => r' = r ∧ i_Rel (k + 5) u v) v v1) u v1) ?_ I
  intro nw nf ns ex ce cm es sg pa sp cr rc ad lw cw dl sl sq N K
  have N' := N
  obtain ⟨_, hn4, hf, hs4⟩ := N'
  unfold wpX_deliveredCount
  dsimp only
  refine xa_ish hf (fun w hw hn e => ?_) (fun h => ?_)
  · subst e
    obtain ⟨t, b1, b2, b3, b4, b5, b6, b7⟩ := kp_W K hw
    refine And.intro (vp_in_nI hw (by omega)) (yc_dcount K.1 hn4 hf hs4 hw hn b1 b2 (fun z => (b3 z).1) b4 ⟨?_, kr_i N K⟩)
    rw [nI_clamp (by omega)]
    exact b6.symm
  · unfold wpY_deliveredCount
    exact ya_hon0 h ⟨rfl, kr_i N K⟩
theorem i_vc_delivered {k : Nat} {u : SX} {v : SY} (I : i_Rel k u v) (hk : k + 5 ≤ 2563) (v1 : Int32) (v2 : Int32) : wpX_delivered (fun r => wpY_delivered (fun r' => r' = r ∧ i_Rel (k + 5) u v) v v1 v2) u v1 v2 := by
  refine kr_el (P := fun u v => wpX_delivered (fun r => wpY_delivered (fun r' => r' = r ∧ i_Rel (k + 5) u v) v v1 v2) u v1 v2) ?_ I
  intro nw nf ns ex ce cm es sg pa sp cr rc ad lw cw dl sl sq N K
  have N' := N
  obtain ⟨_, hn4, hf, hs4⟩ := N'
  unfold wpX_delivered
  dsimp only
  refine xa_ish hf (fun w hw hn e => ?_) (fun h => ?_)
  · subst e
    obtain ⟨t, b1, b2, b3, b4, b5, b6, b7⟩ := kp_W K hw
    have t64 := dg_t64 (dg_P (cw w) (dg_l ns ce) pa) t
    have Yw : ∀ r : Int32, ((∀ p, p < dg_t (dg_P (cw w) (dg_l ns ce) pa) t → v2 ≠ nI p) → (-2 : Int32) = r) → (∀ p, p < dg_t (dg_P (cw w) (dg_l ns ce) pa) t → v2 = nI p → sq (64 * w + p) = r) → wpY_delivered (fun r' => r' = r ∧ i_Rel (k + 5) (nI nw, nI (2 * nw), nI nf, nI ns, ex, ce, cm, es, sg, pa, sp, cr, rc, ad, lw, cw, dl, sl, sq) (nI nw, nI nf, nI ns, sg, cm, es, rc, cr, lw)) (nI nw, nI nf, nI ns, sg, cm, es, rc, cr, lw) (nI w) v2 := by
      intro r h0 h1
      unfold wpY_delivered
      exact ya_hon1 hw hf hn (Exists.intro 6 (yc_de18 K.1 hn4 hs4 hw b1 b2 (fun z => (b3 z).1) b4 b7 (fun z => ⟨h0 z, kr_i N K⟩) (fun p z e => ⟨h1 p z e, kr_i N K⟩) 6 0 0 (by omega) (by omega) (fun i => da_0 i) (fun p hp => absurd hp (by show ¬ p < 0; omega))))
    refine br_c (fun neg => Yw _ (fun _ => rfl) (fun p hp e => ?_)) (fun pos => And.intro (vp_in_nI hw (by omega)) ?_)
    · rw [e] at neg
      exact absurd neg (nI_pos (by omega))
    · obtain ⟨j, hj, rfl⟩ := nI_of pos
      rw [nI_clamp (show w < 2 ^ 31 by omega), b6]
      refine pk_lt j _ (fun lt => ?_) (fun ge => Yw _ (fun _ => rfl) (fun p hp e => ?_))
      · have ei : 64 * nI w + nI j = nI (64 * w + j) := by
          rw [show (64 : Int32) = nI 64 from rfl, pk_mul, nI_add]
        rw [ei, nI_clamp (show 64 * w + j < 2 ^ 31 by omega)]
        refine And.intro (vp_in_nI (by omega) (by omega)) (Yw _ (fun z => absurd rfl (z j lt)) (fun p hp e => ?_))
        rw [nI_eq hj (by omega)] at e
        rw [e]
      · rw [nI_eq hj (by omega)] at e
        omega
  · unfold wpY_delivered
    exact ya_hon0 h ⟨rfl, kr_i N K⟩
theorem i_vc_fate {k : Nat} {u : SX} {v : SY} (I : i_Rel k u v) (hk : k + 5 ≤ 2563) (v1 : Int32) (v2 : Int32) : wpX_fate (fun r => wpY_fate (fun r' => r' = r ∧ i_Rel (k + 5) u v) v v1 v2) u v1 v2 := by
  refine kr_el (P := fun u v => wpX_fate (fun r => wpY_fate (fun r' => r' = r ∧ i_Rel (k + 5) u v) v v1 v2) u v1 v2) ?_ I
  intro nw nf ns ex ce cm es sg pa sp cr rc ad lw cw dl sl sq N K
  have N' := N
  obtain ⟨_, hn4, hf, hs4⟩ := N'
  unfold wpX_fate wpY_fate
  dsimp only
  refine xa_ish hf (fun w hw hn e => ?_) (fun h => ya_hon0 h ⟨rfl, kr_i N K⟩)
  subst e
  obtain ⟨t, b1, b2, b3, b4, b5, b6, b7⟩ := kp_W K hw
  have hin : vp_in (nI w) 4 := vp_in_nI hw (by omega)
  have ecv : (nI w).toNatClampNeg = w := nI_clamp (by omega)
  rw [ecv, b2]
  by_cases h1 : v2 < 1
  · exact br_t h1 (ya_hon1 hw hf hn (br_t h1 ⟨rfl, kr_i N K⟩))
  · by_cases h2 : v2 ≤ nI nw
    · have h0 : ¬ v2 < 0 := fun z => h1 (Int32.lt_trans z (by decide))
      obtain ⟨j, hj, rfl⟩ := nI_of h0
      rw [nI_leI hj (by omega)] at h2
      have h2' : nI j ≤ nI nw := nI_le h2 (by omega)
      have ych : ∀ post : Int32 → Prop, post (cw w) → wpY_chain post (nI nw, nI nf, nI ns, sg, cm, es, rc, cr, lw) (nI w) := fun post hp => yc_chain K.1 hs4 hw (by omega) b2 (fun z => (b3 z).1) b4 hp
      refine br_f h1 (br_t h2' (And.intro hin (pk_le j t (fun le => And.intro hin (xa_i32 (by omega) (fun hb => ya_hon1 hw hf hn (br_f h1 (br_t h2' (ych _ (And.intro hin (br_t (nI_le le (by omega)) (ya_i32 (by omega) (fun _ => ⟨rfl, kr_i N K⟩) (fun hc => ?_)))))))) (fun hb => ya_hon1 hw hf hn (br_f h1 (br_t h2' (ych _ (And.intro hin (br_t (nI_le le (by omega)) (ya_i32 (by omega) (fun hc => ?_) (fun _ => ⟨rfl, kr_i N K⟩)))))))))) (fun gt => ya_hon1 hw hf hn (br_f h1 (br_t h2' (ych _ (And.intro hin (br_f (nI_ge gt (by omega)) ⟨rfl, kr_i N K⟩))))))))) 
      · rw [hb] at hc; exact absurd hc (by decide)
      · rw [hb] at hc; exact absurd hc (by decide)
    · exact br_f h1 (br_f h2 (ya_hon1 hw hf hn (br_f h1 (br_f h2 ⟨rfl, kr_i N K⟩))))
end
