section
/-! rows of kit/rows (starting texts): PURE-ROWS rows 2 to 81, BITS: bt, nx_and, nx_xor, wb_ -/
theorem pk_us {f : Nat → Int32} {k : Nat} {x : Int32} : upd f k x k = x := if_pos rfl
theorem pk_un {f : Nat → Int32} {k j : Nat} {x : Int32} (h : j ≠ k) : upd f k x j = f j := if_neg h
theorem pk_uLs {f : Nat → Int64} {k : Nat} {x : Int64} : vp_updL f k x k = x := if_pos rfl
theorem pk_uLn {f : Nat → Int64} {k j : Nat} {x : Int64} (h : j ≠ k) : vp_updL f k x j = f j := if_neg h
theorem pk_sub {a b : Nat} (h : b ≤ a) : nI a - nI b = nI (a - b) := by
  obtain ⟨c, rfl⟩ : ∃ c, a = c + b := ⟨a - b, by omega⟩
  rw [← nI_add, Int32.add_sub_cancel, Nat.add_sub_cancel]
theorem pk_m1 (n : Nat) : nI (n + 1) + (-1) = nI n := by
  rw [← nI_1, Int32.add_assoc, show (1 : Int32) + (-1) = 0 from rfl, Int32.add_zero]
theorem pk_mul (a b : Nat) : nI a * nI b = nI (a * b) := (Int32.ofNat_mul a b).symm
theorem pk_div {a d : Nat} (ha : a < 2 ^ 31) (h0 : 0 < d) (hd : d < 2 ^ 31) : nI a / nI d = nI (a / d) := by
  apply Int32.toInt_inj.mp
  rw [lg_idiv_nonneg (by rw [nI_toInt ha]; omega) (by rw [nI_toInt hd]; omega), nI_toInt ha, nI_toInt hd, nI_toInt (Nat.lt_of_le_of_lt (Nat.div_le_self a d) ha)]
  first | rfl | exact (Int.natCast_ediv _ _).symm
theorem pk_rem {a d : Nat} (ha : a < 2 ^ 31) (h0 : 0 < d) (hd : d < 2 ^ 31) : nI a - nI a / nI d * nI d = nI (a % d) := by
  rw [pk_div ha h0 hd, pk_mul, pk_sub (Nat.div_mul_le_self a d)]
  exact congrArg nI (by have := Nat.div_add_mod' a d; omega)
theorem pk_sub_toInt {a b : Nat} (ha : a < 2 ^ 30) (hb : b < 2 ^ 30) : (nI a - nI b).toInt = (a : Int) - b := by
  rw [Int32.toInt_sub, nI_toInt (by omega), nI_toInt (by omega)]
  exact Int.bmod_eq_of_le (by omega) (by omega)
theorem pk_sneg {a b : Nat} (hb : b < 2 ^ 30) (h : a < b) : nI a - nI b < 0 := by
  rw [Int32.lt_iff_toInt_lt, pk_sub_toInt (by omega) hb, show (0 : Int32).toInt = 0 from by decide]
  omega
theorem pk_ix (x : Int32) {n : Nat} (hn : n < 2 ^ 31) : x < 0 ∨ nI n ≤ x ∨ ∃ j : Nat, j < n ∧ x = nI j := by
  by_cases h : x < 0
  · exact Or.inl h
  · obtain ⟨j, hj, rfl⟩ := nI_of h
    by_cases h2 : j < n
    · exact Or.inr (Or.inr ⟨j, h2, rfl⟩)
    · exact Or.inr (Or.inl (nI_le (by omega) hj))
theorem pk_le {x y : Int32} {A B : Prop} (a b : Nat) (f : a ≤ b → A) (g : b < a → B) (hx : x = nI a := by rfl) (hy : y = nI b := by rfl) (ha : a < 2 ^ 31 := by omega) (hb : b < 2 ^ 31 := by omega) : (x ≤ y → A) ∧ (¬ x ≤ y → B) := by
  subst hx hy
  rw [nI_leI ha hb]
  exact ⟨f, fun z => g (by omega)⟩
theorem pk_lt {x y : Int32} {A B : Prop} (a b : Nat) (f : a < b → A) (g : b ≤ a → B) (hx : x = nI a := by rfl) (hy : y = nI b := by rfl) (ha : a < 2 ^ 31 := by omega) (hb : b < 2 ^ 31 := by omega) : (x < y → A) ∧ (¬ x < y → B) := by
  subst hx hy
  rw [nI_ltI ha hb]
  exact ⟨f, fun z => g (by omega)⟩
theorem pk_eq {x y : Int32} {A B : Prop} (a b : Nat) (f : a = b → A) (g : a ≠ b → B) (hx : x = nI a := by rfl) (hy : y = nI b := by rfl) (ha : a < 2 ^ 31 := by omega) (hb : b < 2 ^ 31 := by omega) : (x = y → A) ∧ (¬ x = y → B) := by
  subst hx hy
  rw [nI_eq ha hb]
  exact ⟨f, g⟩
theorem pk_in {x : Int32} (n N : Nat) (h : n < N) (hx : x = nI n := by rfl) (hN : N < 2 ^ 31 := by omega) : vp_in x N := by
  subst hx
  exact vp_in_nI h hN
theorem pk_cl {x : Int32} (n : Nat) (hx : x = nI n := by rfl) (h : n < 2 ^ 31 := by omega) : x.toNatClampNeg = n := by
  subst hx
  exact nI_clamp h
theorem pk_tn {n : Nat} (h : n < 2 ^ 32) : (nI n).toBitVec.toNat = n := Nat.mod_eq_of_lt h
theorem pk_and (x : Int32) {m : Int32} (k : Nat) (hm : m.toBitVec.toNat = 2 ^ k - 1) : x &&& m = nI (x.toBitVec.toNat % 2 ^ k) := by
  apply Int32.toBitVec_inj.mp
  apply BitVec.eq_of_toNat_eq
  rw [Int32.toBitVec_and, BitVec.toNat_and, hm, Nat.and_two_pow_sub_one_eq_mod]
  show _ = (BitVec.ofNat 32 _).toNat
  rw [BitVec.toNat_ofNat]
  exact (Nat.mod_eq_of_lt (Nat.lt_of_le_of_lt (Nat.mod_le _ _) x.toBitVec.isLt)).symm
theorem pk_andN {n : Nat} (h : n < 2 ^ 32) {m : Int32} (k : Nat) (hm : m.toBitVec.toNat = 2 ^ k - 1) : nI n &&& m = nI (n % 2 ^ k) := by
  rw [pk_and _ k hm, pk_tn h]
theorem pk_andE (x : Int32) {m : Int32} (k : Nat) (hm : m.toBitVec.toNat = 2 ^ k - 1) : ∃ j : Nat, j < 2 ^ k ∧ x &&& m = nI j := ⟨_, Nat.mod_lt _ (Nat.two_pow_pos k), pk_and x k hm⟩
theorem pk_andIn (x : Int32) {m : Int32} (k : Nat) (hm : m.toBitVec.toNat = 2 ^ k - 1) (hk : k ≤ 30) : vp_in (x &&& m) (2 ^ k) := by
  obtain ⟨j, hj, e⟩ := pk_andE x k hm
  rw [e]
  exact vp_in_nI hj (Nat.lt_of_le_of_lt (Nat.pow_le_pow_right (by decide) hk) (by decide))
theorem pk_shl (a s : Int32) (k : Nat) (hs : (s.toBitVec.smod 32).toNat = k) : (a <<< s).toBitVec.toNat = a.toBitVec.toNat * 2 ^ k % 2 ^ 32 := by
  show (a.toBitVec <<< (s.toBitVec.smod 32).toNat).toNat = _
  rw [hs, BitVec.toNat_shiftLeft, Nat.shiftLeft_eq]
theorem pk_shlN {n : Nat} (s : Int32) (k : Nat) (hs : (s.toBitVec.smod 32).toNat = k) (h : n * 2 ^ k < 2 ^ 32) : nI n <<< s = nI (n * 2 ^ k) := by
  apply Int32.toBitVec_inj.mp
  apply BitVec.eq_of_toNat_eq
  have hn : n < 2 ^ 32 := Nat.lt_of_le_of_lt (Nat.le_mul_of_pos_right n (Nat.two_pow_pos k)) h
  rw [pk_shl _ _ k hs, pk_tn hn, pk_tn h, Nat.mod_eq_of_lt h]
theorem pk_shr (a s : Int32) (k : Nat) (hs : (s.toBitVec.smod 32).toNat = k) : (a >>> s).toInt = a.toInt >>> k := by
  show (a.toBitVec.sshiftRight (s.toBitVec.smod 32).toNat).toInt = _
  rw [hs, BitVec.toInt_sshiftRight]
  rfl
theorem pk_shrN {n : Nat} (h : n < 2 ^ 31) (s : Int32) (k : Nat) (hs : (s.toBitVec.smod 32).toNat = k) : nI n >>> s = nI (n / 2 ^ k) := by
  apply Int32.toInt_inj.mp
  have h2 : n / 2 ^ k ≤ n := Nat.div_le_self _ _
  rw [pk_shr _ _ k hs, nI_toInt h, nI_toInt (by omega), Int.shiftRight_eq_div_pow]
  rfl
def bt (x : Int32) (i : Nat) : Bool := x.toBitVec.getLsbD i
theorem b_ext {x y : Int32} (h : ∀ i, i < 32 → bt x i = bt y i) : x = y := Int32.toBitVec_inj.mp (BitVec.eq_of_getLsbD_eq (fun i hi => h i hi))
theorem b_or (x y : Int32) (i : Nat) : bt (x ||| y) i = (bt x i || bt y i) := by unfold bt; rw [Int32.toBitVec_or, BitVec.getLsbD_or]
theorem b_and (x y : Int32) (i : Nat) : bt (x &&& y) i = (bt x i && bt y i) := by unfold bt; rw [Int32.toBitVec_and, BitVec.getLsbD_and]
theorem b_xor (x y : Int32) (i : Nat) : bt (x ^^^ y) i = (bt x i ^^ bt y i) := by unfold bt; rw [Int32.toBitVec_xor, BitVec.getLsbD_xor]
theorem b_big {x : Int32} {i : Nat} (h : 32 ≤ i) : bt x i = false := BitVec.getLsbD_of_ge _ _ h
theorem b_255 (i : Nat) : bt 255 i = decide (i < 8) := by
  rcases Nat.lt_or_ge i 32 with h | h
  · exact (by decide +kernel : ∀ i, i < 32 → bt 255 i = decide (i < 8)) i h
  · rw [b_big h, decide_eq_false (by omega)]
theorem b_65535 (i : Nat) : bt 65535 i = decide (i < 16) := by
  rcases Nat.lt_or_ge i 32 with h | h
  · exact (by decide +kernel : ∀ i, i < 32 → bt 65535 i = decide (i < 16)) i h
  · rw [b_big h, decide_eq_false (by omega)]
theorem b_m1 : ∀ i, i < 32 → bt (-1) i = true := by decide +kernel
theorem b_0 (i : Nat) : bt 0 i = false := BitVec.getLsbD_zero
theorem s_l : ∀ n, n < 32 → ((nI n &&& 31).toBitVec.smod 32).toNat = n := by decide +kernel
theorem s_u : ∀ n, n < 32 → (((nI n).toUInt32 &&& Int32.toUInt32 31).toBitVec % 32).toNat = n := by decide +kernel
theorem b_shl (n : Nat) (hn : n < 32) (x : Int32) {i : Nat} (hi : i < 32) : bt (x <<< (nI n &&& 31)) i = (decide (n ≤ i) && bt x (i - n)) := by
  unfold bt
  rw [Int32.toBitVec_shiftLeft]
  show (x.toBitVec <<< ((nI n &&& 31).toBitVec.smod 32).toNat).getLsbD i = _
  rw [s_l n hn, BitVec.getLsbD_shiftLeft]
  rcases Nat.lt_or_ge i n with h | h
  · simp [h, Nat.not_le.mpr h]
  · simp [hi, h, Nat.not_lt.mpr h]
theorem b_ushr (n : Nat) (hn : n < 32) (x : Int32) (i : Nat) : bt ((x.toUInt32 >>> ((nI n).toUInt32 &&& Int32.toUInt32 31)).toInt32) i = bt x (n + i) := by
  show (x.toUInt32 >>> ((nI n).toUInt32 &&& Int32.toUInt32 31)).toBitVec.getLsbD i = x.toUInt32.toBitVec.getLsbD (n + i)
  rw [UInt32.toBitVec_shiftRight]
  show (x.toUInt32.toBitVec >>> (((nI n).toUInt32 &&& Int32.toUInt32 31).toBitVec % 32).toNat).getLsbD i = _
  rw [s_u n hn, BitVec.getLsbD_ushiftRight]
theorem b_sshr (n : Nat) (hn : n < 32) (x : Int32) {i : Nat} (hi : i < 32) : bt (x >>> (nI n &&& 31)) i = if n + i < 32 then bt x (n + i) else bt x 31 := by
  unfold bt
  rw [Int32.toBitVec_shiftRight]
  show (x.toBitVec.sshiftRight ((nI n &&& 31).toBitVec.smod 32).toNat).getLsbD i = _
  rw [s_l n hn, BitVec.getLsbD_sshiftRight, BitVec.msb_eq_getLsbD_last]
  simp [hi]
theorem b_shl8 (x : Int32) {i : Nat} (hi : i < 32) : bt (x <<< ((8 : Int32) &&& 31)) i = (decide (8 ≤ i) && bt x (i - 8)) := b_shl 8 (by omega) x hi
theorem b_shl16 (x : Int32) {i : Nat} (hi : i < 32) : bt (x <<< ((16 : Int32) &&& 31)) i = (decide (16 ≤ i) && bt x (i - 16)) := b_shl 16 (by omega) x hi
theorem b_shl24 (x : Int32) {i : Nat} (hi : i < 32) : bt (x <<< ((24 : Int32) &&& 31)) i = (decide (24 ≤ i) && bt x (i - 24)) := b_shl 24 (by omega) x hi
theorem b_sshr8 (x : Int32) {i : Nat} (hi : i < 32) : bt (x >>> ((8 : Int32) &&& 31)) i = if 8 + i < 32 then bt x (8 + i) else bt x 31 := b_sshr 8 (by omega) x hi
theorem nx_and (a b : Nat) : nI a &&& nI b = nI (a &&& b) := by
  apply Int32.toBitVec_inj.1
  show BitVec.ofNat 32 a &&& BitVec.ofNat 32 b = BitVec.ofNat 32 (a &&& b)
  apply BitVec.eq_of_getLsbD_eq
  intro i hi
  simp [hi]
theorem nx_xor (a b : Nat) : nI a ^^^ nI b = nI (a ^^^ b) := by
  apply Int32.toBitVec_inj.1
  show BitVec.ofNat 32 a ^^^ BitVec.ofNat 32 b = BitVec.ofNat 32 (a ^^^ b)
  apply BitVec.eq_of_getLsbD_eq
  intro i hi
  simp [hi]
theorem wb_tb (n : Nat) : (lN n).toBitVec = BitVec.ofNat 64 n := rfl
theorem wb_inj {a b : Int64} (h : a.toBitVec = b.toBitVec) : a = b := Int64.toBitVec_inj.mp h
theorem wb_c : ∀ k, k < 64 → ((nI k).toInt64 &&& 63) = lN k := by decide +kernel
theorem wb_sm : ∀ k, k < 64 → (BitVec.ofNat 64 k).smod 64 = BitVec.ofNat 64 k := by decide +kernel
end
section
/-! numbers, bits of longs, literals -/
/-- bit a of a long -/
def tj_b (x : Int64) (a : Nat) : Bool := x.toBitVec.getLsbD a
theorem tj_b_and (x y : Int64) (a : Nat) : tj_b (x &&& y) a = (tj_b x a && tj_b y a) := by unfold tj_b; rw [Int64.toBitVec_and, BitVec.getLsbD_and]
theorem tj_b_or (x y : Int64) (a : Nat) : tj_b (x ||| y) a = (tj_b x a || tj_b y a) := by unfold tj_b; rw [Int64.toBitVec_or, BitVec.getLsbD_or]
theorem tj_b_xor (x y : Int64) (a : Nat) : tj_b (x ^^^ y) a = (tj_b x a ^^ tj_b y a) := by unfold tj_b; rw [Int64.toBitVec_xor, BitVec.getLsbD_xor]
theorem tj_b_m1 : ∀ a, a < 64 → tj_b (-1) a = true := by decide +kernel
theorem tj_b_0 (a : Nat) : tj_b 0 a = false := BitVec.getLsbD_zero
theorem tj_b_not (x : Int64) {a : Nat} (h : a < 64) : tj_b (x ^^^ (-1)) a = !tj_b x a := by
  rw [tj_b_xor, tj_b_m1 a h]
  cases tj_b x a <;> rfl
theorem tj_b_ext {x y : Int64} (h : ∀ a, a < 64 → tj_b x a = tj_b y a) : x = y := Int64.toBitVec_inj.mp (BitVec.eq_of_getLsbD_eq (fun i hi => h i hi))
theorem tj_sm : ∀ k, k < 64 → (((nI k).toInt64 &&& 63).toBitVec.smod 64).toNat = k := by decide +kernel
theorem tj_b_shr (x : Int64) {k a : Nat} (h : k + a < 64) : tj_b (x >>> ((nI k).toInt64 &&& 63)) a = tj_b x (k + a) := by
  unfold tj_b
  rw [Int64.toBitVec_shiftRight]
  show (x.toBitVec.sshiftRight (((nI k).toInt64 &&& 63).toBitVec.smod 64).toNat).getLsbD a = _
  have h1 : ¬ 64 ≤ a := by omega
  rw [tj_sm k (by omega), BitVec.getLsbD_sshiftRight, if_pos h]
  simp [h1]
/-- a truth value as an int -/
def tj_i (b : Bool) : Int32 := bif b then 1 else 0
theorem tj_b_one (x : Int64) {a : Nat} (ha : a < 64) : (x >>> ((nI a).toInt64 &&& 63)) &&& 1 = bif tj_b x a then 1 else 0 := by
  apply Int64.toBitVec_inj.mp
  rw [Int64.toBitVec_and]
  show ((x >>> ((nI a).toInt64 &&& 63)).toBitVec &&& 1#64) = _
  rw [BitVec.and_one_eq_setWidth_ofBool_getLsbD, show (x >>> ((nI a).toInt64 &&& 63)).toBitVec.getLsbD 0 = tj_b x a from tj_b_shr x (a := 0) (by omega)]
  cases tj_b x a <;> rfl
theorem tj_b_eq1 (x : Int64) {a : Nat} (ha : a < 64) : ((x >>> ((nI a).toInt64 &&& 63)) &&& 1 = 1) ↔ tj_b x a = true := by
  rw [tj_b_one x ha]
  cases tj_b x a <;> decide
theorem tj_b_i32 (x : Int64) {a : Nat} (ha : a < 64) : ((x >>> ((nI a).toInt64 &&& 63)) &&& 1).toInt32 = nI (tj_b x a).toNat := by
  rw [tj_b_one x ha]
  cases tj_b x a <;> decide
/-- branch by a bit -/
theorem tj_brb {c A B : Prop} {b : Bool} (e : c ↔ b = true) (f : b = true → A) (g : b = false → B) : (c → A) ∧ (¬ c → B) := by
  refine ⟨fun h => f (e.mp h), fun h => g ?_⟩
  cases b
  · rfl
  · exact absurd (e.mpr rfl) h
theorem tj_i0 {b : Bool} : (tj_i b = 0) ↔ (!b) = true := by cases b <;> decide
theorem tj_i1 {b : Bool} : (tj_i b = 1) ↔ b = true := by cases b <;> decide
/-- branch on tj_i b = 0 -/
theorem tj_br0 {A B : Prop} {b : Bool} (f : b = false → A) (g : b = true → B) : (tj_i b = 0 → A) ∧ (¬ tj_i b = 0 → B) := by
  cases b
  · exact br_t rfl (f rfl)
  · exact br_f (by decide) (g rfl)
theorem tj_br1 {A B : Prop} {b : Bool} (f : b = true → A) (g : b = false → B) : (tj_i b = 1 → A) ∧ (¬ tj_i b = 1 → B) := by
  cases b
  · exact br_f (by decide) (g rfl)
  · exact br_t rfl (f rfl)
theorem tj_ad (t i : Nat) : (20 : Int32) * nI t + nI i = nI (20 * t + i) := by
  show nI 20 * nI t + nI i = _
  rw [pk_mul, nI_add]
theorem tj_ad12 (k : Nat) : (12 : Int32) + nI k = nI (12 + k) := by
  show nI 12 + nI k = _
  rw [nI_add]
theorem tj_m12 (s k : Nat) : (12 : Int32) * nI s + nI k = nI (12 * s + k) := by
  show nI 12 * nI s + nI k = _
  rw [pk_mul, nI_add]
theorem tj_rd {β : Type} (f : Nat → β) {n : Nat} (h : n < 2 ^ 31) : f (nI n).toNatClampNeg = f n := by rw [nI_clamp h]
theorem tj_uu (f : Nat → Int64) (k : Nat) (x y : Int64) : vp_updL (vp_updL f k x) k y = vp_updL f k y := by
  funext j
  unfold vp_updL
  by_cases h : j = k
  · rw [if_pos h, if_pos h]
  · rw [if_neg h, if_neg h, if_neg h]
/-- the assignments, as bits, in which variable k is 1 -/
def tj_ones (k : Nat) : Int64 :=
  if k = 0 then -6148914691236517206 else if k = 1 then -3689348814741910324 else if k = 2 then -1085102592571150096
  else if k = 3 then -71777214294589696 else if k = 4 then -281470681808896 else -4294967296
theorem tj_ones_b : ∀ k, k < 6 → ∀ a, a < 64 → tj_b (tj_ones k) a = a.testBit k := by decide +kernel
/-- literal l in assignment a -/
def tj_lit (l a : Nat) : Bool := if l < 6 then a.testBit l else if l < 12 then !a.testBit (l - 6) else l == 13
theorem tj_yl1 : ∀ l, l < 6 → ∀ a, a < 64 → (nI a >>> (nI l &&& 31)) &&& 1 = tj_i (a.testBit l) := by decide +kernel
theorem tj_yl2 : ∀ l, l < 6 → ∀ a, a < 64 → 1 - ((nI a >>> ((nI (l + 6) - 6) &&& 31)) &&& 1) = tj_i (!a.testBit l) := by decide +kernel
/-- how many of the first k hold -/
def tj_n (p : Nat → Bool) : Nat → Nat
  | 0 => 0
  | k + 1 => tj_n p k + (p k).toNat
theorem tj_n_le (p : Nat → Bool) : ∀ k, tj_n p k ≤ k
  | 0 => Nat.le_refl 0
  | k + 1 => by
    have h := tj_n_le p k
    have h2 : (p k).toNat ≤ 1 := Bool.toNat_le (p k)
    show tj_n p k + (p k).toNat ≤ k + 1
    omega
theorem tj_n_cg {p q : Nat → Bool} : ∀ k, (∀ j, j < k → p j = q j) → tj_n p k = tj_n q k
  | 0, _ => rfl
  | k + 1, h => by
    show tj_n p k + (p k).toNat = tj_n q k + (q k).toNat
    rw [tj_n_cg k (fun j hj => h j (by omega)), h k (by omega)]
/-- what a node may be as the reference codes it -/
def tj_c (v : Bool × Bool) : Int32 := bif v.1 then (bif v.2 then 3 else 1) else (bif v.2 then 2 else 0)
theorem tj_c_inj {v w : Bool × Bool} (h : tj_c v = tj_c w) : v = w := by
  obtain ⟨a, b⟩ := v
  obtain ⟨c, d⟩ := w
  revert h
  cases a <;> cases b <;> cases c <;> cases d <;> decide
theorem tj_c0 {v : Bool × Bool} : tj_c v = 0 ↔ v = (false, false) := ⟨fun h => tj_c_inj (w := (false, false)) h, fun h => by rw [h]; rfl⟩
end
section
/-! the circuit, and what its nodes may be -/
/-- count, kinds, firsts, seconds, item counts, moments, places, demands, guards, the item left out -/
abbrev tj_C : Type := Nat × (Nat → Nat) × (Nat → Nat) × (Nat → Nat) × (Nat → Nat) × (Nat → Nat) × (Nat → Nat) × (Nat → Nat) × (Nat → Nat) × Int32
def tj_cc (Q : tj_C) : Nat := Q.1
def tj_K (Q : tj_C) : Nat → Nat := Q.2.1
def tj_F (Q : tj_C) : Nat → Nat := Q.2.2.1
def tj_S (Q : tj_C) : Nat → Nat := Q.2.2.2.1
def tj_I (Q : tj_C) : Nat → Nat := Q.2.2.2.2.1
def tj_M (Q : tj_C) : Nat → Nat := Q.2.2.2.2.2.1
def tj_P (Q : tj_C) : Nat → Nat := Q.2.2.2.2.2.2.1
def tj_D (Q : tj_C) : Nat → Nat := Q.2.2.2.2.2.2.2.1
def tj_G (Q : tj_C) : Nat → Nat := Q.2.2.2.2.2.2.2.2.1
def tj_lo (Q : tj_C) : Int32 := Q.2.2.2.2.2.2.2.2.2
def tj_aK (Q : tj_C) : Nat → Int32 := fun j => nI (tj_K Q j)
def tj_aF (Q : tj_C) : Nat → Int32 := fun j => nI (tj_F Q j)
def tj_aS (Q : tj_C) : Nat → Int32 := fun j => nI (tj_S Q j)
def tj_aI (Q : tj_C) : Nat → Int32 := fun j => nI (tj_I Q j)
def tj_aM (Q : tj_C) : Nat → Int32 := fun j => nI (tj_M Q j)
def tj_aP (Q : tj_C) : Nat → Int32 := fun j => nI (tj_P Q j)
def tj_aD (Q : tj_C) : Nat → Int32 := fun j => nI (tj_D Q j)
def tj_aG (Q : tj_C) : Nat → Int32 := fun j => nI (tj_G Q j)
/-- the state of the component, of the reference, over Q -/
def tj_X (Q : tj_C) (kn : Int32) (il fl : Int64) (mz mo : Nat → Int64) : SX := ((nI (tj_cc Q)), kn, il, fl, (tj_lo Q), (tj_aK Q), (tj_aF Q), (tj_aS Q), (tj_aI Q), (tj_aM Q), (tj_aP Q), (tj_aD Q), (tj_aG Q), mz, mo)
def tj_Y (Q : tj_C) (fs ss my kp : Nat → Int32) : SY := ((nI (tj_cc Q)), (tj_lo Q), (tj_aK Q), fs, ss, (tj_aI Q), (tj_aM Q), (tj_aP Q), (tj_aD Q), (tj_aG Q), my, kp)
/-- the nodes are well formed -/
def tj_N (c : Nat) (K F S : Nat → Nat) : Prop :=
  c ≤ 20 ∧ (∀ n, K n ≤ 5) ∧ (∀ n, F n < 20) ∧ (∀ n, n < c → 1 ≤ K n → K n ≤ 4 → F n < n) ∧ (∀ n, n < c → K n = 5 → F n < c) ∧ (∀ n, n < c → 2 ≤ K n → K n ≤ 4 → S n < n)
/-- the items are well formed -/
def tj_T (c : Nat) (M P D G : Nat → Nat) : Prop := ∀ j, M j < 4 ∧ (P j < c ∨ P j = 0) ∧ D j < 14 ∧ G j < 14
def tj_W (Q : tj_C) : Prop :=
  tj_N (tj_cc Q) (tj_K Q) (tj_F Q) (tj_S Q) ∧ tj_T (tj_cc Q) (tj_M Q) (tj_P Q) (tj_D Q) (tj_G Q) ∧ tj_I Q 0 ≤ 12 ∧ tj_I Q 1 ≤ 12 ∧ (tj_cc Q = 0 → tj_I Q 1 = 0)
/-- a node's own value out of the values V -/
def tj_base (Q : tj_C) (V : Nat → Nat → Bool × Bool) (t n : Nat) : Bool × Bool :=
  if tj_K Q n = 0 then (true, true)
  else if tj_K Q n = 5 then (if t = 0 then (true, true) else V (t - 1) (tj_F Q n))
  else if tj_K Q n = 1 then ((V t (tj_F Q n)).2, (V t (tj_F Q n)).1)
  else if tj_K Q n = 2 then ((V t (tj_F Q n)).1 || (V t (tj_S Q n)).1, (V t (tj_F Q n)).2 && (V t (tj_S Q n)).2)
  else if tj_K Q n = 3 then ((V t (tj_F Q n)).1 && (V t (tj_S Q n)).1, (V t (tj_F Q n)).2 || (V t (tj_S Q n)).2)
  else (((V t (tj_F Q n)).1 && (V t (tj_S Q n)).1) || ((V t (tj_F Q n)).2 && (V t (tj_S Q n)).2), ((V t (tj_F Q n)).2 && (V t (tj_S Q n)).1) || ((V t (tj_F Q n)).1 && (V t (tj_S Q n)).2))
/-- item k asks of node n at t -/
def tj_ask (Q : tj_C) (t n k : Nat) : Prop := tj_M Q k = t ∧ tj_P Q k = n ∧ ¬ nI k = tj_lo Q
def tj_cut (g d : Bool) (w : Bool × Bool) : Bool × Bool := (w.1 && !(g && d), w.2 && !(g && !d))
/-- the first k assumed items, in assignment a -/
def tj_asm (Q : tj_C) (a t n : Nat) (v : Bool × Bool) : Nat → Bool × Bool
  | 0 => v
  | k + 1 => if tj_M Q k = t ∧ tj_P Q k = n ∧ ¬ nI k = tj_lo Q then tj_cut (tj_lit (tj_G Q k) a) (tj_lit (tj_D Q k) a) (tj_asm Q a t n v k) else tj_asm Q a t n v k
theorem tj_asm_y {Q : tj_C} {a t n : Nat} {v : Bool × Bool} {k : Nat} (h1 : tj_M Q k = t) (h2 : tj_P Q k = n) (h3 : ¬ nI k = tj_lo Q) : tj_asm Q a t n v (k + 1) = tj_cut (tj_lit (tj_G Q k) a) (tj_lit (tj_D Q k) a) (tj_asm Q a t n v k) := if_pos ⟨h1, h2, h3⟩
theorem tj_asm_n {Q : tj_C} {a t n : Nat} {v : Bool × Bool} {k : Nat} (h : ¬ (tj_M Q k = t ∧ tj_P Q k = n ∧ ¬ nI k = tj_lo Q)) : tj_asm Q a t n v (k + 1) = tj_asm Q a t n v k := if_neg h
/-- with a fuel -/
def tj_v (Q : tj_C) (a : Nat) : Nat → Nat → Nat → Bool × Bool
  | 0 => fun _ _ => (false, false)
  | f + 1 => fun t n => tj_asm Q a t n (tj_base Q (tj_v Q a f) t n) (tj_I Q 0)
/-- what node n may be at t in assignment a -/
def tj_V (Q : tj_C) (a t n : Nat) : Bool × Bool := tj_v Q a 100 t n
theorem tj_base_cg {Q : tj_C} (hw : tj_W Q) {V V' : Nat → Nat → Bool × Bool} {t n : Nat} (hn : n < tj_cc Q) (h : ∀ t' n', n' < tj_cc Q → 20 * t' + n' < 20 * t + n → V t' n' = V' t' n') : tj_base Q V t n = tj_base Q V' t n := by
  obtain ⟨⟨hc, hK, hF, hF1, hF5, hS⟩, -⟩ := hw
  have k5 := hK n
  unfold tj_base
  by_cases h0 : tj_K Q n = 0
  · rw [if_pos h0, if_pos h0]
  rw [if_neg h0, if_neg h0]
  by_cases h5 : tj_K Q n = 5
  · rw [if_pos h5, if_pos h5]
    have f5 := hF5 n hn h5
    by_cases t0 : t = 0
    · rw [if_pos t0, if_pos t0]
    · rw [if_neg t0, if_neg t0, h (t - 1) _ f5 (by omega)]
  rw [if_neg h5, if_neg h5]
  have f1 := hF1 n hn (by omega) (by omega)
  rw [h t (tj_F Q n) (by omega) (by omega)]
  by_cases h1 : tj_K Q n = 1
  · rw [if_pos h1, if_pos h1]
  rw [if_neg h1, if_neg h1]
  have s1 := hS n hn (by omega) (by omega)
  rw [h t (tj_S Q n) (by omega) (by omega)]
theorem tj_v_st {Q : tj_C} (hw : tj_W Q) (a : Nat) : ∀ f g t n, n < tj_cc Q → 20 * t + n < f → 20 * t + n < g → tj_v Q a f t n = tj_v Q a g t n := by
  intro f
  induction f with
  | zero => intro g t n _ h; omega
  | succ f ih =>
    intro g t n hn hf hg
    cases g with
    | zero => omega
    | succ g =>
      show tj_asm Q a t n (tj_base Q (tj_v Q a f) t n) (tj_I Q 0) = tj_asm Q a t n (tj_base Q (tj_v Q a g) t n) (tj_I Q 0)
      rw [tj_base_cg hw hn (V' := tj_v Q a g) (fun t' n' hn' hl => ih g t' n' hn' (by omega) (by omega))]
/-- the equation of the values -/
theorem tj_V_eq {Q : tj_C} (hw : tj_W Q) (a : Nat) {t n : Nat} (ht : t < 4) (hn : n < tj_cc Q) : tj_V Q a t n = tj_asm Q a t n (tj_base Q (tj_V Q a) t n) (tj_I Q 0) := by
  have hc := hw.1.1
  exact tj_v_st hw a 100 101 t n hn (by omega) (by omega)
/-- ahead of (t, n) in the order of following -/
def tj_lt (t' n' t n : Nat) : Prop := t' < t ∨ (t' = t ∧ n' < n)
theorem tj_lt_s {t' n' t n : Nat} (h : tj_lt t' n' t (n + 1)) : tj_lt t' n' t n ∨ (t' = t ∧ n' = n) := by
  unfold tj_lt at *; omega
/-- longs z, o hold the values v in all assignments -/
def tj_h (z o : Int64) (v : Nat → Bool × Bool) : Prop := ∀ a, a < 64 → (tj_b z a, tj_b o a) = v a
/-- the component's longs are right up to (t, n) -/
def tj_dX (Q : tj_C) (mz mo : Nat → Int64) (t n : Nat) : Prop := ∀ t' n', n' < tj_cc Q → tj_lt t' n' t n → tj_h (mz (20 * t' + n')) (mo (20 * t' + n')) (fun a => tj_V Q a t' n')
/-- the reference's codes are right up to (t, n) in assignment a -/
def tj_dY (Q : tj_C) (a : Nat) (my : Nat → Int32) (t n : Nat) : Prop := ∀ t' n', n' < tj_cc Q → tj_lt t' n' t n → my (20 * t' + n') = tj_c (tj_V Q a t' n')
/-- an idle one up to (t, n) -/
def tj_E (Q : tj_C) (a t n : Nat) : Prop := ∃ t' n', n' < tj_cc Q ∧ tj_lt t' n' t n ∧ tj_V Q a t' n' = (false, false)
theorem tj_E_s {Q : tj_C} {a t n : Nat} (hn : n < tj_cc Q) : tj_E Q a t (n + 1) ↔ tj_E Q a t n ∨ tj_V Q a t n = (false, false) := by
  constructor
  · rintro ⟨t', n', h, l, e⟩
    rcases tj_lt_s l with l | ⟨rfl, rfl⟩
    · exact Or.inl ⟨t', n', h, l, e⟩
    · exact Or.inr e
  · rintro (⟨t', n', h, l, e⟩ | e)
    · exact ⟨t', n', h, by unfold tj_lt at *; omega, e⟩
    · exact ⟨t, n, hn, Or.inr ⟨rfl, Nat.lt_succ_self n⟩, e⟩
theorem tj_E_t {Q : tj_C} {a t : Nat} : tj_E Q a t (tj_cc Q) ↔ tj_E Q a (t + 1) 0 := by
  constructor
  · rintro ⟨t', n', h, l, e⟩
    exact ⟨t', n', h, by unfold tj_lt at *; omega, e⟩
  · rintro ⟨t', n', h, l, e⟩
    exact ⟨t', n', h, by unfold tj_lt at *; omega, e⟩
theorem tj_E_0 {Q : tj_C} {a : Nat} : ¬ tj_E Q a 0 0 := by
  rintro ⟨t', n', h, l, e⟩
  unfold tj_lt at l
  omega
/-- idle in assignment a -/
def tj_Idle (Q : tj_C) (a : Nat) : Prop := tj_E Q a 4 0
/-- claimed item k counts in a and its node may be the other one -/
def tj_brk (Q : tj_C) (a k : Nat) : Bool := tj_lit (tj_G Q (12 + k)) a && (bif tj_lit (tj_D Q (12 + k)) a then (tj_V Q a (tj_M Q (12 + k)) (tj_P Q (12 + k))).1 else (tj_V Q a (tj_M Q (12 + k)) (tj_P Q (12 + k))).2)
def tj_any (Q : tj_C) (a k : Nat) : Prop := ∃ j, j < k ∧ tj_brk Q a j = true
def tj_Fail (Q : tj_C) (a : Nat) : Prop := ¬ tj_Idle Q a ∧ tj_any Q a (tj_I Q 1)
theorem tj_any_s {Q : tj_C} {a k : Nat} : tj_any Q a (k + 1) ↔ tj_any Q a k ∨ tj_brk Q a k = true := by
  constructor
  · rintro ⟨j, hj, e⟩
    by_cases h : j = k
    · exact Or.inr (h ▸ e)
    · exact Or.inl ⟨j, by omega, e⟩
  · rintro (⟨j, hj, e⟩ | e)
    · exact ⟨j, by omega, e⟩
    · exact ⟨k, by omega, e⟩
theorem tj_any_0 {Q : tj_C} {a : Nat} : ¬ tj_any Q a 0 := by
  rintro ⟨j, hj, -⟩
  omega
/-- what the component holds when it knows -/
def tj_Good (Q : tj_C) (il fl : Int64) (mz mo : Nat → Int64) : Prop :=
  tj_dX Q mz mo 4 0 ∧ (∀ a, a < 64 → (tj_b il a = true ↔ tj_Idle Q a)) ∧ (∀ a, a < 64 → (tj_b fl a = true ↔ tj_Fail Q a))
theorem tj_place {Q : tj_C} (hw : tj_W Q) {k : Nat} (hk : k < tj_I Q 1) : tj_P Q (12 + k) < tj_cc Q := by
  obtain ⟨-, hT, -, -, h0⟩ := hw
  rcases (hT (12 + k)).2.1 with h | h
  · exact h
  · rw [h]
    rcases Nat.eq_zero_or_pos (tj_cc Q) with z | z
    · have := h0 z; omega
    · exact z
end
section
/-! the component: literals, sizes, a node's own value, assumed items -/
theorem tj_xones {post : Int64 → Prop} (u : SX) {k : Nat} (hk : k < 6) (h : post (tj_ones k)) : wpX_onesOf post u (nI k) := by
  obtain ⟨f_count, f_known, f_idleOnes, f_failing, f_leftOut, a_kind, a_first, a_second, a_itemsOf, a_moment, a_place, a_demand, a_guard, a_mayZero, a_mayOne⟩ := u
  unfold wpX_onesOf
  dsimp only
  match k, hk, h with
  | 0, _, h => exact br_t rfl h
  | 1, _, h => exact br_f (by decide) (br_t rfl h)
  | 2, _, h => exact br_f (by decide) (br_f (by decide) (br_t rfl h))
  | 3, _, h => exact br_f (by decide) (br_f (by decide) (br_f (by decide) (br_t rfl h)))
  | 4, _, h => exact br_f (by decide) (br_f (by decide) (br_f (by decide) (br_f (by decide) (br_t rfl h))))
  | 5, _, h => exact br_f (by decide) (br_f (by decide) (br_f (by decide) (br_f (by decide) (br_f (by decide) h))))
  | k + 6, hk, _ => omega
theorem tj_xlit {post : Int64 → Prop} (u : SX) {l : Nat} (hl : l < 14) (h : ∀ r, (∀ a, a < 64 → tj_b r a = tj_lit l a) → post r) : wpX_literal post u (nI l) := by
  obtain ⟨f_count, f_known, f_idleOnes, f_failing, f_leftOut, a_kind, a_first, a_second, a_itemsOf, a_moment, a_place, a_demand, a_guard, a_mayZero, a_mayOne⟩ := u
  unfold wpX_literal
  dsimp only
  refine pk_le 6 l (fun h6 => pk_le 12 l (fun h12 => ?_) (fun h12 => ?_)) (fun h6 => ?_)
  · refine pk_eq l 13 (fun e => h _ fun a ha => ?_) (fun e => h _ fun a ha => ?_)
    · rw [tj_b_m1 a ha]
      unfold tj_lit
      rw [if_neg (by omega), if_neg (by omega), e]
      rfl
    · rw [tj_b_0]
      unfold tj_lit
      rw [if_neg (by omega), if_neg (by omega)]
      exact (beq_false_of_ne e).symm
  · have e : nI l - 6 = nI (l - 6) := pk_sub (b := 6) h6
    rw [e]
    refine tj_xones _ (by omega) (h _ fun a ha => ?_)
    rw [tj_b_not _ ha, tj_ones_b _ (by omega) a ha]
    unfold tj_lit
    rw [if_neg (by omega), if_pos h12]
  · refine tj_xones _ h6 (h _ fun a ha => ?_)
    rw [tj_ones_b _ h6 a ha]
    unfold tj_lit
    rw [if_pos h6]
section
variable {Q : tj_C} {kn : Int32} {il fl : Int64} {mz mo : Nat → Int64}
theorem tj_xsz_l {post : Int32 → Prop} {x : Int64} (hp : post (nI (tj_n (tj_b x) 64))) : ∀ n i, i ≤ 64 → 64 < n + i → wX_sizeOf_5 post x (nI (tj_cc Q)) kn il fl (tj_lo Q) (tj_aK Q) (tj_aF Q) (tj_aS Q) (tj_aI Q) (tj_aM Q) (tj_aP Q) (tj_aD Q) (tj_aG Q) mz mo n (nI (tj_n (tj_b x) i)) (nI i) := by
  intro n
  induction n with
  | zero => intro i _ h; omega
  | succ n ih =>
    intro i hi hn
    refine pk_le 64 i (fun h => ?_) (fun h => ?_)
    · have e : i = 64 := by omega
      rw [e]
      exact hp
    · refine nm_r (e' := nI (tj_n (tj_b x) (i + 1))) ?_ (nm_r (nI_1 i) (ih (i + 1) (by omega) (by omega)))
      rw [tj_b_i32 x h, nI_add]
      rfl
theorem tj_xsz {post : Int32 → Prop} {x : Int64} (hp : post (nI (tj_n (tj_b x) 64))) : wpX_sizeOf post (tj_X Q kn il fl mz mo) x := by
  unfold wpX_sizeOf tj_X
  dsimp only
  exact ⟨65, tj_xsz_l hp 65 0 (by omega) (by omega)⟩
theorem tj_x56 {post : SX → Prop} {j : Nat} (hj : j < 80) (h : post (tj_X Q kn il fl (vp_updL mz j (-1)) (vp_updL mo j (-1)))) : wX_ownValue_56 post (nI j) (nI (tj_cc Q)) kn il fl (tj_lo Q) (tj_aK Q) (tj_aF Q) (tj_aS Q) (tj_aI Q) (tj_aM Q) (tj_aP Q) (tj_aD Q) (tj_aG Q) mz mo := by
  have i80 : vp_in (nI j) 80 := vp_in_nI hj (by omega)
  have e := nI_clamp (n := j) (by omega)
  unfold wX_ownValue_56
  exact ⟨i80, nm_r (e' := vp_updL mo j (-1)) (by rw [e]) ⟨i80, nm_r (e' := vp_updL mz j (-1)) (by rw [e]) h⟩⟩
theorem tj_x77_5 {post : SX → Prop} {j x : Nat} {x5 : Int32} (hj : j < 80) (h20 : 20 ≤ x) (hx : x - 20 < 80) (h : post (tj_X Q kn il fl (vp_updL mz j (mz (x - 20))) (vp_updL mo j (mo (x - 20))))) : wX_ownValue_77 post (nI j) (nI x) x5 5 (nI (tj_cc Q)) kn il fl (tj_lo Q) (tj_aK Q) (tj_aF Q) (tj_aS Q) (tj_aI Q) (tj_aM Q) (tj_aP Q) (tj_aD Q) (tj_aG Q) mz mo := by
  have ij : vp_in (nI j) 80 := vp_in_nI hj (by omega)
  have ix : vp_in (nI (x - 20)) 80 := vp_in_nI hx (by omega)
  have ej := nI_clamp (n := j) (by omega)
  have ex := nI_clamp (n := x - 20) (by omega)
  have es : nI x - 20 = nI (x - 20) := pk_sub (b := 20) h20
  unfold wX_ownValue_77
  refine br_t rfl ?_
  rw [es]
  exact ⟨ix, ij, nm_r (e' := vp_updL mo j (mo (x - 20))) (by rw [ej, ex]) ⟨ix, ij, nm_r (e' := vp_updL mz j (mz (x - 20))) (by rw [ej, ex]) h⟩⟩
theorem tj_x77_1 {post : SX → Prop} {j x : Nat} {x5 : Int32} (hj : j < 80) (hx : x < 80) (hn : x ≠ j) (h : post (tj_X Q kn il fl (vp_updL mz j (mo x)) (vp_updL mo j (mz x)))) : wX_ownValue_77 post (nI j) (nI x) x5 1 (nI (tj_cc Q)) kn il fl (tj_lo Q) (tj_aK Q) (tj_aF Q) (tj_aS Q) (tj_aI Q) (tj_aM Q) (tj_aP Q) (tj_aD Q) (tj_aG Q) mz mo := by
  have ij : vp_in (nI j) 80 := vp_in_nI hj (by omega)
  have ix : vp_in (nI x) 80 := vp_in_nI hx (by omega)
  have ej := nI_clamp (n := j) (by omega)
  have ex := nI_clamp (n := x) (by omega)
  unfold wX_ownValue_77
  refine br_f (by decide) (br_t rfl ?_)
  exact ⟨ix, ij, nm_r (e' := vp_updL mo j (mz x)) (by rw [ej, ex]) ⟨ix, ij, nm_r (e' := vp_updL mz j (mo x)) (by rw [ej, ex, pk_uLn hn]) h⟩⟩
theorem tj_x77_2 {post : SX → Prop} {j x y : Nat} (hj : j < 80) (hx : x < 80) (hy : y < 80) (h : post (tj_X Q kn il fl (vp_updL mz j (mz x ||| mz y)) (vp_updL mo j (mo x &&& mo y)))) : wX_ownValue_77 post (nI j) (nI x) (nI y) 2 (nI (tj_cc Q)) kn il fl (tj_lo Q) (tj_aK Q) (tj_aF Q) (tj_aS Q) (tj_aI Q) (tj_aM Q) (tj_aP Q) (tj_aD Q) (tj_aG Q) mz mo := by
  have ij : vp_in (nI j) 80 := vp_in_nI hj (by omega)
  have ix : vp_in (nI x) 80 := vp_in_nI hx (by omega)
  have iy : vp_in (nI y) 80 := vp_in_nI hy (by omega)
  have ej := nI_clamp (n := j) (by omega)
  have ex := nI_clamp (n := x) (by omega)
  have ey := nI_clamp (n := y) (by omega)
  unfold wX_ownValue_77
  refine br_f (by decide) (br_f (by decide) (br_t rfl ?_))
  exact ⟨ix, iy, ij, nm_r (e' := vp_updL mo j (mo x &&& mo y)) (by rw [ej, ex, ey]) ⟨ix, iy, ij, nm_r (e' := vp_updL mz j (mz x ||| mz y)) (by rw [ej, ex, ey]) h⟩⟩
theorem tj_x77_3 {post : SX → Prop} {j x y : Nat} (hj : j < 80) (hx : x < 80) (hy : y < 80) (h : post (tj_X Q kn il fl (vp_updL mz j (mz x &&& mz y)) (vp_updL mo j (mo x ||| mo y)))) : wX_ownValue_77 post (nI j) (nI x) (nI y) 3 (nI (tj_cc Q)) kn il fl (tj_lo Q) (tj_aK Q) (tj_aF Q) (tj_aS Q) (tj_aI Q) (tj_aM Q) (tj_aP Q) (tj_aD Q) (tj_aG Q) mz mo := by
  have ij : vp_in (nI j) 80 := vp_in_nI hj (by omega)
  have ix : vp_in (nI x) 80 := vp_in_nI hx (by omega)
  have iy : vp_in (nI y) 80 := vp_in_nI hy (by omega)
  have ej := nI_clamp (n := j) (by omega)
  have ex := nI_clamp (n := x) (by omega)
  have ey := nI_clamp (n := y) (by omega)
  unfold wX_ownValue_77
  refine br_f (by decide) (br_f (by decide) (br_f (by decide) (br_t rfl ?_)))
  exact ⟨ix, iy, ij, nm_r (e' := vp_updL mo j (mo x ||| mo y)) (by rw [ej, ex, ey]) ⟨ix, iy, ij, nm_r (e' := vp_updL mz j (mz x &&& mz y)) (by rw [ej, ex, ey]) h⟩⟩
theorem tj_x77_4 {post : SX → Prop} {j x y : Nat} (hj : j < 80) (hx : x < 80) (hy : y < 80) (hxj : x ≠ j) (hyj : y ≠ j) (h : post (tj_X Q kn il fl (vp_updL mz j ((mz x &&& mz y) ||| (mo x &&& mo y))) (vp_updL mo j ((mo x &&& mz y) ||| (mz x &&& mo y))))) : wX_ownValue_77 post (nI j) (nI x) (nI y) 4 (nI (tj_cc Q)) kn il fl (tj_lo Q) (tj_aK Q) (tj_aF Q) (tj_aS Q) (tj_aI Q) (tj_aM Q) (tj_aP Q) (tj_aD Q) (tj_aG Q) mz mo := by
  have ij : vp_in (nI j) 80 := vp_in_nI hj (by omega)
  have ix : vp_in (nI x) 80 := vp_in_nI hx (by omega)
  have iy : vp_in (nI y) 80 := vp_in_nI hy (by omega)
  have ej := nI_clamp (n := j) (by omega)
  have ex := nI_clamp (n := x) (by omega)
  have ey := nI_clamp (n := y) (by omega)
  unfold wX_ownValue_77
  refine br_f (by decide) (br_f (by decide) (br_f (by decide) (br_f (by decide) ?_)))
  exact ⟨ix, iy, ix, iy, ij, nm_r (e' := vp_updL mo j ((mo x &&& mz y) ||| (mz x &&& mo y))) (by rw [ej, ex, ey]) ⟨ix, iy, ix, iy, ij, nm_r (e' := vp_updL mz j ((mz x &&& mz y) ||| (mo x &&& mo y))) (by rw [ej, ex, ey, pk_uLn hxj, pk_uLn hyj]) h⟩⟩
/-- a node's own value -/
theorem tj_xown {post : SX → Prop} (hw : tj_W Q) {t n : Nat} (ht : t < 4) (hn : n < tj_cc Q) (hd : tj_dX Q mz mo t n)
    (hp : ∀ z o, tj_h z o (fun a => tj_base Q (tj_V Q a) t n) → post (tj_X Q kn il fl (vp_updL mz (20 * t + n) z) (vp_updL mo (20 * t + n) o))) :
    wpX_ownValue post (tj_X Q kn il fl mz mo) (nI t) (nI n) := by
  obtain ⟨⟨hc, hK, hF, hF1, hF5, hS⟩, -⟩ := hw
  have k5 := hK n
  have f20 := hF n
  have i20 : vp_in (nI n) 20 := vp_in_nI (by omega) (by omega)
  have rK : tj_aK Q (nI n).toNatClampNeg = nI (tj_K Q n) := tj_rd _ (by omega)
  have rF : tj_aF Q (nI n).toNatClampNeg = nI (tj_F Q n) := tj_rd _ (by omega)
  have rS : tj_aS Q (nI n).toNatClampNeg = nI (tj_S Q n) := tj_rd _ (by omega)
  have j80 : 20 * t + n < 80 := by omega
  unfold wpX_ownValue tj_X
  dsimp only
  refine nm_r (tj_ad t n) ⟨i20, nm_r (e' := nI (20 * t + tj_F Q n)) (by rw [rF, tj_ad]) ⟨i20, nm_r (e' := nI (20 * t + tj_S Q n)) (by rw [rS, tj_ad]) ⟨i20, nm_r rK ?_⟩⟩⟩
  by_cases h0 : tj_K Q n = 0
  · rw [h0]
    refine br_t rfl (tj_x56 j80 (hp _ _ fun a ha => ?_))
    show _ = tj_base Q (tj_V Q a) t n
    unfold tj_base
    rw [if_pos h0, tj_b_m1 a ha]
  by_cases h5 : tj_K Q n = 5
  · rw [h5]
    have f5 := hF5 n hn h5
    refine br_f (by decide) (br_t rfl (pk_eq t 0 (fun t0 => ?_) (fun t0 => ?_)))
    · refine tj_x56 j80 (hp _ _ fun a ha => ?_)
      show _ = tj_base Q (tj_V Q a) t n
      unfold tj_base
      rw [if_neg h0, if_pos h5, if_pos t0, tj_b_m1 a ha]
    · refine tj_x77_5 j80 (by omega) (by omega) (hp _ _ fun a ha => ?_)
      have q := hd (t - 1) (tj_F Q n) f5 (Or.inl (by omega)) a ha
      have e : 20 * t + tj_F Q n - 20 = 20 * (t - 1) + tj_F Q n := by omega
      show _ = tj_base Q (tj_V Q a) t n
      unfold tj_base
      rw [if_neg h0, if_pos h5, if_neg t0, e]
      exact q
  have f1 := hF1 n hn (by omega) (by omega)
  have qx : ∀ a, a < 64 → (tj_b (mz (20 * t + tj_F Q n)) a, tj_b (mo (20 * t + tj_F Q n)) a) = tj_V Q a t (tj_F Q n) := hd t (tj_F Q n) (by omega) (Or.inr ⟨rfl, f1⟩)
  by_cases h1 : tj_K Q n = 1
  · rw [h1]
    refine br_f (by decide) (br_f (by decide) (tj_x77_1 j80 (by omega) (by omega) (hp _ _ fun a ha => ?_)))
    show _ = tj_base Q (tj_V Q a) t n
    unfold tj_base
    rw [if_neg h0, if_neg h5, if_pos h1, ← qx a ha]
  have s1 := hS n hn (by omega) (by omega)
  have qy : ∀ a, a < 64 → (tj_b (mz (20 * t + tj_S Q n)) a, tj_b (mo (20 * t + tj_S Q n)) a) = tj_V Q a t (tj_S Q n) := hd t (tj_S Q n) (by omega) (Or.inr ⟨rfl, s1⟩)
  by_cases h2 : tj_K Q n = 2
  · rw [h2]
    refine br_f (by decide) (br_f (by decide) (tj_x77_2 j80 (by omega) (by omega) (hp _ _ fun a ha => ?_)))
    show _ = tj_base Q (tj_V Q a) t n
    unfold tj_base
    rw [if_neg h0, if_neg h5, if_neg h1, if_pos h2, ← qx a ha, ← qy a ha, tj_b_or, tj_b_and]
  by_cases h3 : tj_K Q n = 3
  · rw [h3]
    refine br_f (by decide) (br_f (by decide) (tj_x77_3 j80 (by omega) (by omega) (hp _ _ fun a ha => ?_)))
    show _ = tj_base Q (tj_V Q a) t n
    unfold tj_base
    rw [if_neg h0, if_neg h5, if_neg h1, if_neg h2, if_pos h3, ← qx a ha, ← qy a ha, tj_b_or, tj_b_and]
  have h4 : tj_K Q n = 4 := by omega
  rw [h4]
  refine br_f (by decide) (br_f (by decide) (tj_x77_4 j80 (by omega) (by omega) (by omega) (by omega) (hp _ _ fun a ha => ?_)))
  show _ = tj_base Q (tj_V Q a) t n
  unfold tj_base
  rw [if_neg h0, if_neg h5, if_neg h1, if_neg h2, if_neg h3, ← qx a ha, ← qy a ha]
  simp only [tj_b_or, tj_b_and]
/-- the assumed items from k on -/
theorem tj_xasm_l {post : SX → Prop} (hw : tj_W Q) {t i : Nat} (ht : t < 4) (hi : i < tj_cc Q) {v : Nat → Bool × Bool}
    (hp : ∀ z o, tj_h z o (fun a => tj_asm Q a t i (v a) (tj_I Q 0)) → post (tj_X Q kn il fl (vp_updL mz (20 * t + i) z) (vp_updL mo (20 * t + i) o))) :
    ∀ n k z o, k ≤ tj_I Q 0 → tj_I Q 0 < n + k → tj_h z o (fun a => tj_asm Q a t i (v a) k) →
    wX_assume_10 post (nI t) (nI i) (nI (20 * t + i)) (nI (tj_cc Q)) kn il fl (tj_lo Q) n (nI k) (tj_aK Q) (tj_aF Q) (tj_aS Q) (tj_aI Q) (tj_aM Q) (tj_aP Q) (tj_aD Q) (tj_aG Q) (vp_updL mz (20 * t + i) z) (vp_updL mo (20 * t + i) o) := by
  intro n
  induction n with
  | zero => intro k _ _ _ h; omega
  | succ n ih =>
    intro k z o hk hn hh
    have hc := hw.1.1
    have hI : tj_I Q 0 ≤ 12 := hw.2.2.1
    have hT := hw.2.1 k
    refine pk_le (tj_I Q 0) k (fun h => ?_) (fun h => ?_)
    · have e : k = tj_I Q 0 := by omega
      rw [e] at hh
      exact hp z o hh
    · have i24 : vp_in (nI k) 24 := vp_in_nI (by omega) (by omega)
      have i80 : vp_in (nI (20 * t + i)) 80 := vp_in_nI (by omega) (by omega)
      have ej := nI_clamp (n := 20 * t + i) (by omega)
      have rM : tj_aM Q (nI k).toNatClampNeg = nI (tj_M Q k) := tj_rd _ (by omega)
      have rP : tj_aP Q (nI k).toNatClampNeg = nI (tj_P Q k) := tj_rd _ (by omega)
      have rD : tj_aD Q (nI k).toNatClampNeg = nI (tj_D Q k) := tj_rd _ (by omega)
      have rG : tj_aG Q (nI k).toNatClampNeg = nI (tj_G Q k) := tj_rd _ (by omega)
      have hM := hT.1
      have hP : tj_P Q k < 20 := by have := hT.2.1; omega
      have skip : ¬ (tj_M Q k = t ∧ tj_P Q k = i ∧ ¬ nI k = tj_lo Q) → tj_h z o (fun a => tj_asm Q a t i (v a) (k + 1)) := by
        intro h' a ha
        show _ = tj_asm Q a t i (v a) (k + 1)
        rw [tj_asm_n h']
        exact hh a ha
      refine And.intro i24 (pk_eq (tj_M Q k) t (fun e1 => And.intro i24 (pk_eq (tj_P Q k) i (fun e2 => br_c (fun e3 => ?_) (fun e3 => And.intro i24 ?_)) (fun e2 => ?_) rP)) (fun e1 => ?_) rM)
      · exact nm_r (nI_1 k) (ih (k + 1) z o (by omega) (by omega) (skip fun q => q.2.2 e3))
      · rw [rG]
        refine tj_xlit _ hT.2.2.2 (fun r hr => And.intro i24 ?_)
        rw [rD]
        refine tj_xlit _ hT.2.2.1 (fun s hs => ?_)
        refine ⟨i80, i80, nm_r (e' := vp_updL mz (20 * t + i) (z &&& ((r &&& s) ^^^ (-1)))) (by rw [ej, tj_uu, pk_uLs]) ⟨i80, i80, nm_r (e' := vp_updL mo (20 * t + i) (o &&& ((r &&& (s ^^^ (-1))) ^^^ (-1)))) (by rw [ej, tj_uu, pk_uLs]) (nm_r (nI_1 k) (ih (k + 1) _ _ (by omega) (by omega) fun a ha => ?_))⟩⟩
        show _ = tj_asm Q a t i (v a) (k + 1)
        have q : (tj_b z a, tj_b o a) = tj_asm Q a t i (v a) k := hh a ha
        rw [tj_asm_y e1 e2 e3, ← q]
        simp only [tj_b_and, tj_b_not _ ha, hr a ha, hs a ha]
        rfl
      · exact nm_r (nI_1 k) (ih (k + 1) z o (by omega) (by omega) (skip fun q => e2 q.2.1))
      · exact nm_r (nI_1 k) (ih (k + 1) z o (by omega) (by omega) (skip fun q => e1 q.1))
theorem tj_xasm {post : SX → Prop} (hw : tj_W Q) {t i : Nat} (ht : t < 4) (hi : i < tj_cc Q) {v : Nat → Bool × Bool} {z o : Int64} (hz : tj_h z o v)
    (hp : ∀ z o, tj_h z o (fun a => tj_asm Q a t i (v a) (tj_I Q 0)) → post (tj_X Q kn il fl (vp_updL mz (20 * t + i) z) (vp_updL mo (20 * t + i) o))) :
    wpX_assume post (tj_X Q kn il fl (vp_updL mz (20 * t + i) z) (vp_updL mo (20 * t + i) o)) (nI t) (nI i) := by
  unfold wpX_assume tj_X
  dsimp only
  exact nm_r (tj_ad t i) ⟨tj_I Q 0 + 1, tj_xasm_l hw ht hi hp _ 0 z o (by omega) (by omega) hz⟩
end
end
section
/-! the component: following, failing, finding -/
abbrev tj_JX : Type := Int32 → Int32 → Int32 → Int64 → Int64 → Int32 → (Nat → Int32) → (Nat → Int32) → (Nat → Int32) → (Nat → Int32) → (Nat → Int32) → (Nat → Int32) → (Nat → Int32) → (Nat → Int32) → (Nat → Int64) → (Nat → Int64) → Prop
theorem tj_dX_s {Q : tj_C} {mz mo : Nat → Int64} (hc : tj_cc Q ≤ 20) {t i : Nat} {z o : Int64} (hi : i < tj_cc Q) (hd : tj_dX Q mz mo t i) (hz : tj_h z o (fun a => tj_V Q a t i)) : tj_dX Q (vp_updL mz (20 * t + i) z) (vp_updL mo (20 * t + i) o) t (i + 1) := by
  intro t' n' hn' hl
  rcases tj_lt_s hl with l | ⟨rfl, rfl⟩
  · have e : 20 * t' + n' ≠ 20 * t + i := by unfold tj_lt at l; omega
    rw [pk_uLn e, pk_uLn e]
    exact hd t' n' hn' l
  · rw [pk_uLs, pk_uLs]
    exact hz
theorem tj_dX_t {Q : tj_C} {mz mo : Nat → Int64} {t : Nat} (hd : tj_dX Q mz mo t (tj_cc Q)) : tj_dX Q mz mo (t + 1) 0 :=
  fun t' n' hn' hl => hd t' n' hn' (by unfold tj_lt at *; omega)
theorem tj_dX_0 {Q : tj_C} {mz mo : Nat → Int64} : tj_dX Q mz mo 0 0 := by
  intro t' n' hn' hl
  unfold tj_lt at hl
  omega
section
variable {Q : tj_C} {kn : Int32} {fl : Int64}
theorem tj_xfol14 {post : SX → Prop} {J7 : tj_JX} (hw : tj_W Q) {t : Nat} (ht : t < 4)
    (hp : ∀ il mz mo, tj_dX Q mz mo (t + 1) 0 → (∀ a, a < 64 → (tj_b il a = true ↔ tj_E Q a (t + 1) 0)) → J7 (nI (t + 1)) (nI (tj_cc Q)) kn il fl (tj_lo Q) (tj_aK Q) (tj_aF Q) (tj_aS Q) (tj_aI Q) (tj_aM Q) (tj_aP Q) (tj_aD Q) (tj_aG Q) mz mo) :
    ∀ n i il mz mo, i ≤ tj_cc Q → tj_cc Q < n + i → tj_dX Q mz mo t i → (∀ a, a < 64 → (tj_b il a = true ↔ tj_E Q a t i)) →
    wX_follow_14 post J7 (nI t) n (nI i) (nI (tj_cc Q)) kn il fl (tj_lo Q) (tj_aK Q) (tj_aF Q) (tj_aS Q) (tj_aI Q) (tj_aM Q) (tj_aP Q) (tj_aD Q) (tj_aG Q) mz mo := by
  intro n
  induction n with
  | zero => intro i _ _ _ _ h; omega
  | succ n ih =>
    intro i il mz mo hi hn hd he
    have hc := hw.1.1
    refine pk_le (tj_cc Q) i (fun h => ?_) (fun h => ?_)
    · have e : i = tj_cc Q := by omega
      rw [e] at hd he
      exact nm_r (nI_1 t) (hp il mz mo (tj_dX_t hd) (fun a ha => (he a ha).trans tj_E_t))
    · have i80 : vp_in (nI (20 * t + i)) 80 := vp_in_nI (by omega) (by omega)
      have ej := nI_clamp (n := 20 * t + i) (by omega)
      refine tj_xown (kn := kn) (il := il) (fl := fl) hw ht h hd (fun z o hz => ?_)
      refine tj_xasm (kn := kn) (il := il) (fl := fl) (mz := mz) (mo := mo) hw ht h hz (fun z o hz => ?_)
      have hv : ∀ a, a < 64 → (tj_b z a, tj_b o a) = tj_V Q a t i := by
        intro a ha
        rw [tj_V_eq hw a ht h]
        exact hz a ha
      unfold tj_X
      dsimp only
      rw [tj_ad t i, ej, pk_uLs, pk_uLs]
      refine ⟨i80, i80, nm_e (nm_r (nI_1 i) (ih (i + 1) _ _ _ (by omega) (by omega) (tj_dX_s hc h hd hv) fun a ha => ?_))⟩
      rw [tj_b_or, tj_b_not _ ha, tj_b_or, tj_E_s h, ← hv a ha, ← he a ha]
      cases tj_b il a <;> cases tj_b z a <;> cases tj_b o a <;> simp
theorem tj_xfol7 {post : SX → Prop} (hw : tj_W Q)
    (hp : ∀ il mz mo, tj_dX Q mz mo 4 0 → (∀ a, a < 64 → (tj_b il a = true ↔ tj_Idle Q a)) → post (tj_X Q kn il fl mz mo)) :
    ∀ n t il mz mo, t ≤ 4 → 4 < n + t → tj_dX Q mz mo t 0 → (∀ a, a < 64 → (tj_b il a = true ↔ tj_E Q a t 0)) →
    wX_follow_7 post n (nI t) (nI (tj_cc Q)) kn il fl (tj_lo Q) (tj_aK Q) (tj_aF Q) (tj_aS Q) (tj_aI Q) (tj_aM Q) (tj_aP Q) (tj_aD Q) (tj_aG Q) mz mo := by
  intro n
  induction n with
  | zero => intro t _ _ _ _ h; omega
  | succ n ih =>
    intro t il mz mo ht hn hd he
    refine pk_le 4 t (fun h => ?_) (fun h => ?_)
    · have e : t = 4 := by omega
      rw [e] at hd he
      exact hp il mz mo hd he
    · exact Exists.intro (tj_cc Q + 1) (tj_xfol14 hw h (fun il mz mo hd he => ih (t + 1) il mz mo (by omega) (by omega) hd he) (tj_cc Q + 1) 0 il mz mo (by omega) (by omega) hd he)
theorem tj_xfol {post : SX → Prop} {il : Int64} {mz mo : Nat → Int64} (hw : tj_W Q)
    (hp : ∀ il mz mo, tj_dX Q mz mo 4 0 → (∀ a, a < 64 → (tj_b il a = true ↔ tj_Idle Q a)) → post (tj_X Q kn il fl mz mo)) :
    wpX_follow post (tj_X Q kn il fl mz mo) := by
  unfold wpX_follow tj_X
  dsimp only
  refine ⟨5, tj_xfol7 hw hp 5 0 0 mz mo (by omega) (by omega) tj_dX_0 fun a ha => ?_⟩
  rw [tj_b_0]
  exact ⟨fun z => (by cases z), fun z => absurd z tj_E_0⟩
end
section
variable {Q : tj_C} {kn : Int32} {il fl : Int64} {mz mo : Nat → Int64}
/-- claimed item k -/
theorem tj_xag {post : Int64 → Prop} (hw : tj_W Q) {k : Nat} (hk : k < tj_I Q 1) (hd : tj_dX Q mz mo 4 0)
    (hp : ∀ r, (∀ a, a < 64 → tj_b r a = (!tj_b il a && tj_brk Q a k)) → post r) : wpX_against post (tj_X Q kn il fl mz mo) (nI k) := by
  have h12 := hw.2.2.2.1
  have hT := hw.2.1 (12 + k)
  have hP := tj_place hw hk
  have hc := hw.1.1
  have hM := hT.1
  have i24 : vp_in (nI (12 + k)) 24 := vp_in_nI (by omega) (by omega)
  have i80 : vp_in (nI (20 * tj_M Q (12 + k) + tj_P Q (12 + k))) 80 := vp_in_nI (by omega) (by omega)
  have ej := nI_clamp (n := 20 * tj_M Q (12 + k) + tj_P Q (12 + k)) (by omega)
  have rM : tj_aM Q (nI (12 + k)).toNatClampNeg = nI (tj_M Q (12 + k)) := tj_rd _ (by omega)
  have rP : tj_aP Q (nI (12 + k)).toNatClampNeg = nI (tj_P Q (12 + k)) := tj_rd _ (by omega)
  have rD : tj_aD Q (nI (12 + k)).toNatClampNeg = nI (tj_D Q (12 + k)) := tj_rd _ (by omega)
  have rG : tj_aG Q (nI (12 + k)).toNatClampNeg = nI (tj_G Q (12 + k)) := tj_rd _ (by omega)
  unfold wpX_against tj_X
  dsimp only
  refine nm_r (tj_ad12 k) ⟨i24, i24, nm_r (e' := nI (20 * tj_M Q (12 + k) + tj_P Q (12 + k))) (by rw [rM, rP, tj_ad]) ⟨i24, ?_⟩⟩
  rw [rG]
  refine tj_xlit _ hT.2.2.2 (fun r hr => ⟨i24, ?_⟩)
  rw [rD]
  refine tj_xlit _ hT.2.2.1 (fun s hs => ⟨i80, i80, hp _ fun a ha => ?_⟩)
  have q : (tj_b (mz (20 * tj_M Q (12 + k) + tj_P Q (12 + k))) a, tj_b (mo (20 * tj_M Q (12 + k) + tj_P Q (12 + k))) a) = tj_V Q a (tj_M Q (12 + k)) (tj_P Q (12 + k)) := hd _ _ hP (Or.inl hM) a ha
  rw [ej]
  simp only [tj_b_and, tj_b_or, tj_b_not _ ha, hr a ha, hs a ha]
  unfold tj_brk
  rw [← q]
  dsimp only
  cases tj_lit (tj_G Q (12 + k)) a <;> cases tj_lit (tj_D Q (12 + k)) a <;> cases tj_b il a <;> simp
theorem tj_xfa_l {post : SX → Prop} (hw : tj_W Q) (hd : tj_dX Q mz mo 4 0) (he : ∀ a, a < 64 → (tj_b il a = true ↔ tj_Idle Q a))
    (hp : ∀ fl, tj_Good Q il fl mz mo → post (tj_X Q kn il fl mz mo)) :
    ∀ n k fl, k ≤ tj_I Q 1 → tj_I Q 1 < n + k → (∀ a, a < 64 → (tj_b fl a = true ↔ ¬ tj_Idle Q a ∧ tj_any Q a k)) →
    wX_findAll_11 post (nI (tj_cc Q)) kn il (tj_lo Q) (tj_aK Q) (tj_aF Q) (tj_aS Q) (tj_aI Q) (tj_aM Q) (tj_aP Q) (tj_aD Q) (tj_aG Q) mz mo n (nI k) fl := by
  intro n
  induction n with
  | zero => intro k _ _ h; omega
  | succ n ih =>
    intro k fl hk hn hf
    have h12 := hw.2.2.2.1
    refine pk_le (tj_I Q 1) k (fun h => ?_) (fun h => ?_)
    · have e : k = tj_I Q 1 := by omega
      rw [e] at hf
      exact hp fl ⟨hd, he, hf⟩
    · refine tj_xag (kn := kn) (fl := fl) hw h hd (fun r hr => nm_e (nm_r (nI_1 k) (ih (k + 1) _ (by omega) (by omega) fun a ha => ?_)))
      rw [tj_b_or, hr a ha, tj_any_s, ← he a ha]
      have q := hf a ha
      rw [← he a ha] at q
      rw [Bool.or_eq_true, q]
      cases tj_b il a <;> cases tj_brk Q a k <;> simp
theorem tj_xfa {post : SX → Prop} (hw : tj_W Q) (hp : ∀ il fl mz mo, tj_Good Q il fl mz mo → post (tj_X Q kn il fl mz mo)) : wpX_findAll post (tj_X Q kn il fl mz mo) := by
  unfold wpX_findAll tj_X
  dsimp only
  refine tj_xfol (kn := kn) (fl := fl) (il := il) (mz := mz) (mo := mo) hw (fun il mz mo hd he => ?_)
  unfold tj_X
  dsimp only
  refine ⟨tj_I Q 1 + 1, tj_xfa_l hw hd he (fun fl h => hp il fl mz mo h) _ 0 0 (by omega) (by omega) fun a ha => ?_⟩
  rw [tj_b_0]
  exact ⟨fun z => (by cases z), fun z => absurd z.2 tj_any_0⟩
theorem tj_xfind {post : SX → Prop} (hw : tj_W Q) (hk : kn = 0 ∨ (kn = 1 ∧ tj_Good Q il fl mz mo)) (hp : ∀ il fl mz mo, tj_Good Q il fl mz mo → post (tj_X Q 1 il fl mz mo)) : wpX_find post (tj_X Q kn il fl mz mo) := by
  unfold wpX_find tj_X
  dsimp only
  rcases hk with rfl | ⟨rfl, h⟩
  · refine br_t rfl (tj_xfa (kn := 1) (fl := fl) (il := il) (mz := mz) (mo := mo) hw (fun il fl mz mo h => ?_))
    exact hp il fl mz mo h
  · exact br_f (by decide) (hp il fl mz mo h)
end
end
section
/-! the reference: literals, a node's own value, following one assignment -/
/-- the reference's links agree with the circuit's where a kind uses them -/
def tj_FS (Q : tj_C) (fs ss : Nat → Int32) : Prop := (∀ n, 1 ≤ tj_K Q n → fs n = nI (tj_F Q n)) ∧ (∀ n, 2 ≤ tj_K Q n → tj_K Q n ≤ 4 → ss n = nI (tj_S Q n))
theorem tj_ylit {post : Int32 → Prop} (u : SY) {l a : Nat} (hl : l < 14) (ha : a < 64) (h : post (tj_i (tj_lit l a))) : wpY_literal post u (nI l) (nI a) := by
  obtain ⟨f_count, f_out, a_kinds, a_firsts, a_seconds, a_counts, a_moments, a_places, a_demands, a_guards, a_may, a_kept⟩ := u
  unfold wpY_literal
  dsimp only
  refine pk_le l 11 (fun h11 => pk_le 6 l (fun h6 => ?_) (fun h6 => ?_)) (fun h11 => ?_)
  · have e := tj_yl2 (l - 6) (by omega) a ha
    rw [show l - 6 + 6 = l by omega] at e
    rw [e]
    unfold tj_lit at h
    rw [if_neg (by omega), if_pos (by omega)] at h
    exact h
  · rw [tj_yl1 l (by omega) a ha]
    unfold tj_lit at h
    rw [if_pos (by omega)] at h
    exact h
  · have e : nI l - 12 = nI (l - 12) := pk_sub (b := 12) (by omega)
    rw [e]
    unfold tj_lit at h
    rw [if_neg (by omega), if_neg (by omega)] at h
    rcases (show l = 12 ∨ l = 13 by omega) with rfl | rfl
    · exact h
    · exact h
theorem tj_ycode {post : Int32 → Prop} (u : SY) {z o : Bool} (h : post (tj_c (z, o))) : wpY_code post u (tj_i z) (tj_i o) := by
  obtain ⟨f_count, f_out, a_kinds, a_firsts, a_seconds, a_counts, a_moments, a_places, a_demands, a_guards, a_may, a_kept⟩ := u
  unfold wpY_code
  dsimp only
  unfold wY_code_9
  cases z <;> cases o
  · exact br_t rfl (br_t rfl (by rw [show (0 : Int32) + 0 = 0 by decide]; exact h))
  · exact br_t rfl (br_f (by decide) (by rw [show (0 : Int32) + 2 = 2 by decide]; exact h))
  · exact br_f (by decide) (br_t rfl (by rw [show (1 : Int32) + 0 = 1 by decide]; exact h))
  · exact br_f (by decide) (br_f (by decide) (by rw [show (1 : Int32) + 2 = 3 by decide]; exact h))
section
variable {Q : tj_C} {fs ss my kp : Nat → Int32}
theorem tj_y173 {post : Int32 → Prop} {z o : Bool} (h : post (tj_c (z, o))) : wY_own_173 post (tj_i o) (tj_i z) (nI (tj_cc Q)) (tj_lo Q) (tj_aK Q) fs ss (tj_aI Q) (tj_aM Q) (tj_aP Q) (tj_aD Q) (tj_aG Q) my kp := tj_ycode _ h
theorem tj_y218 {post : Int32 → Prop} {z o : Bool} (h : post (tj_c (z, o))) : wY_own_218 post (tj_i o) (tj_i z) (nI (tj_cc Q)) (tj_lo Q) (tj_aK Q) fs ss (tj_aI Q) (tj_aM Q) (tj_aP Q) (tj_aD Q) (tj_aG Q) my kp := tj_ycode _ h
theorem tj_y273 {post : Int32 → Prop} {z o : Bool} (h : post (tj_c (z, o))) : wY_own_273 post (tj_i o) (tj_i z) (nI (tj_cc Q)) (tj_lo Q) (tj_aK Q) fs ss (tj_aI Q) (tj_aM Q) (tj_aP Q) (tj_aD Q) (tj_aG Q) my kp := tj_ycode _ h
theorem tj_y158 {post : Int32 → Prop} {z o1 o2 : Bool} (h : post (tj_c (z, o1 && o2))) : wY_own_158 post (tj_i o1) (tj_i o2) (tj_i z) (nI (tj_cc Q)) (tj_lo Q) (tj_aK Q) fs ss (tj_aI Q) (tj_aM Q) (tj_aP Q) (tj_aD Q) (tj_aG Q) my kp := by
  unfold wY_own_158 wY_own_172
  cases o1
  · exact br_t rfl (tj_y173 (o := false) h)
  cases o2
  · exact br_f (by decide) (br_t rfl (tj_y173 (o := false) h))
  · exact br_f (by decide) (br_f (by decide) (tj_y173 (o := true) h))
theorem tj_y203 {post : Int32 → Prop} {z o1 o2 : Bool} (h : post (tj_c (z, o1 || o2))) : wY_own_203 post (tj_i o1) (tj_i o2) (tj_i z) (nI (tj_cc Q)) (tj_lo Q) (tj_aK Q) fs ss (tj_aI Q) (tj_aM Q) (tj_aP Q) (tj_aD Q) (tj_aG Q) my kp := by
  unfold wY_own_203 wY_own_213
  cases o1
  · cases o2
    · exact br_t rfl (br_t rfl (tj_y218 (o := false) h))
    · exact br_t rfl (br_f (by decide) (tj_y218 (o := true) h))
  · exact br_f (by decide) (tj_y218 (o := true) h)
theorem tj_y258 {post : Int32 → Prop} {z z1 o2 : Bool} (h : post (tj_c (z, z1 && o2))) : wY_own_258 post (tj_i z1) (tj_i o2) (tj_i z) (nI (tj_cc Q)) (tj_lo Q) (tj_aK Q) fs ss (tj_aI Q) (tj_aM Q) (tj_aP Q) (tj_aD Q) (tj_aG Q) my kp := by
  unfold wY_own_258 wY_own_272 wY_own_268
  cases z1
  · exact br_t rfl (tj_y273 (o := false) h)
  cases o2
  · exact br_f (by decide) (br_t rfl (tj_y273 (o := false) h))
  · exact br_f (by decide) (br_f (by decide) (tj_y273 (o := true) h))
theorem tj_y248 {post : Int32 → Prop} {z z1 o1 z2 o2 : Bool} (h : post (tj_c (z, (o1 && z2) || (z1 && o2)))) : wY_own_248 post (tj_i z1) (tj_i o1) (tj_i z2) (tj_i o2) (tj_i z) (nI (tj_cc Q)) (tj_lo Q) (tj_aK Q) fs ss (tj_aI Q) (tj_aM Q) (tj_aP Q) (tj_aD Q) (tj_aG Q) my kp := by
  unfold wY_own_248 wY_own_268
  cases o1
  · exact br_t rfl (tj_y258 h)
  cases z2
  · exact br_f (by decide) (br_t rfl (tj_y258 h))
  · exact br_f (by decide) (br_f (by decide) (tj_y273 (o := true) h))
theorem tj_y233 {post : Int32 → Prop} {z1 o1 z2 o2 : Bool} (h : post (tj_c (o1 && o2, (o1 && z2) || (z1 && o2)))) : wY_own_233 post (tj_i z1) (tj_i o1) (tj_i z2) (tj_i o2) (nI (tj_cc Q)) (tj_lo Q) (tj_aK Q) fs ss (tj_aI Q) (tj_aM Q) (tj_aP Q) (tj_aD Q) (tj_aG Q) my kp := by
  unfold wY_own_233 wY_own_247 wY_own_243
  cases o1
  · exact br_t rfl (tj_y248 (z := false) h)
  cases o2
  · exact br_f (by decide) (br_t rfl (tj_y248 (z := false) h))
  · exact br_f (by decide) (br_f (by decide) (tj_y248 (z := true) h))
/-- the gate of kind k out of two values -/
def tj_gate (k : Nat) (v w : Bool × Bool) : Bool × Bool :=
  if k = 1 then (v.2, v.1) else if k = 2 then (v.1 || w.1, v.2 && w.2) else if k = 3 then (v.1 && w.1, v.2 || w.2)
  else ((v.1 && w.1) || (v.2 && w.2), (v.2 && w.1) || (v.1 && w.2))
theorem tj_y111 {post : Int32 → Prop} {n : Nat} (hn : n < 20) (h1 : 1 ≤ tj_K Q n) (h4 : tj_K Q n ≤ 4) {v w : Bool × Bool} (h : post (tj_c (tj_gate (tj_K Q n) v w))) : wY_own_111 post (nI n) (tj_i v.1) (tj_i v.2) (tj_i w.1) (tj_i w.2) (nI (tj_cc Q)) (tj_lo Q) (tj_aK Q) fs ss (tj_aI Q) (tj_aM Q) (tj_aP Q) (tj_aD Q) (tj_aG Q) my kp := by
  have i20 : vp_in (nI n) 20 := vp_in_nI hn (by omega)
  have rK : tj_aK Q (nI n).toNatClampNeg = nI (tj_K Q n) := tj_rd _ (by omega)
  obtain ⟨z1, o1⟩ := v
  obtain ⟨z2, o2⟩ := w
  dsimp only
  unfold wY_own_111
  rcases (show tj_K Q n = 1 ∨ tj_K Q n = 2 ∨ tj_K Q n = 3 ∨ tj_K Q n = 4 by omega) with e | e | e | e
  · rw [e] at rK h
    exact ⟨i20, br_t rK (tj_ycode _ h)⟩
  · rw [e] at rK h
    refine ⟨i20, br_f (by rw [rK]; decide) ⟨i20, br_t rK ?_⟩⟩
    unfold wY_own_153
    cases z1
    · cases z2
      · exact br_t rfl (br_t rfl (tj_y158 (z := false) h))
      · exact br_t rfl (br_f (by decide) (tj_y158 (z := true) h))
    · exact br_f (by decide) (tj_y158 (z := true) h)
  · rw [e] at rK h
    refine ⟨i20, br_f (by rw [rK]; decide) ⟨i20, br_f (by rw [rK]; decide) ⟨i20, br_t rK ?_⟩⟩⟩
    unfold wY_own_202
    cases z1
    · exact br_t rfl (tj_y203 (z := false) h)
    cases z2
    · exact br_f (by decide) (br_t rfl (tj_y203 (z := false) h))
    · exact br_f (by decide) (br_f (by decide) (tj_y203 (z := true) h))
  · rw [e] at rK h
    refine ⟨i20, br_f (by rw [rK]; decide) ⟨i20, br_f (by rw [rK]; decide) ⟨i20, br_f (by rw [rK]; decide) ?_⟩⟩⟩
    unfold wY_own_243
    cases z1
    · exact br_t rfl (tj_y233 h)
    cases z2
    · exact br_f (by decide) (br_t rfl (tj_y233 h))
    · exact br_f (by decide) (br_f (by decide) (tj_y248 (z := true) h))
theorem tj_y98 {post : Int32 → Prop} {x2 x5 x6 x7 : Int32} {w : Bool × Bool} (h : wY_own_111 post x2 x5 x6 x7 (tj_i w.2) (nI (tj_cc Q)) (tj_lo Q) (tj_aK Q) fs ss (tj_aI Q) (tj_aM Q) (tj_aP Q) (tj_aD Q) (tj_aG Q) my kp) : wY_own_98 post x2 (tj_c w) x5 x6 x7 (nI (tj_cc Q)) (tj_lo Q) (tj_aK Q) fs ss (tj_aI Q) (tj_aM Q) (tj_aP Q) (tj_aD Q) (tj_aG Q) my kp := by
  unfold wY_own_98
  obtain ⟨p, q⟩ := w
  cases p <;> cases q <;> first | exact br_t (by decide) h | exact br_f (by decide) h
theorem tj_y83 {post : Int32 → Prop} {x2 x5 x6 : Int32} {w : Bool × Bool} (h : wY_own_111 post x2 x5 x6 (tj_i w.1) (tj_i w.2) (nI (tj_cc Q)) (tj_lo Q) (tj_aK Q) fs ss (tj_aI Q) (tj_aM Q) (tj_aP Q) (tj_aD Q) (tj_aG Q) my kp) : wY_own_83 post x2 (tj_c w) x5 x6 (nI (tj_cc Q)) (tj_lo Q) (tj_aK Q) fs ss (tj_aI Q) (tj_aM Q) (tj_aP Q) (tj_aD Q) (tj_aG Q) my kp := by
  unfold wY_own_83
  refine ⟨by decide, ?_⟩
  have h' := tj_y98 h
  obtain ⟨p, q⟩ := w
  cases p <;> cases q <;> first | exact br_t (by decide) h' | exact br_f (by decide) h'
theorem tj_y71 {post : Int32 → Prop} {x2 x5 : Int32} {v w : Bool × Bool} (h : wY_own_111 post x2 x5 (tj_i v.2) (tj_i w.1) (tj_i w.2) (nI (tj_cc Q)) (tj_lo Q) (tj_aK Q) fs ss (tj_aI Q) (tj_aM Q) (tj_aP Q) (tj_aD Q) (tj_aG Q) my kp) : wY_own_71 post x2 (tj_c v) (tj_c w) x5 (nI (tj_cc Q)) (tj_lo Q) (tj_aK Q) fs ss (tj_aI Q) (tj_aM Q) (tj_aP Q) (tj_aD Q) (tj_aG Q) my kp := by
  unfold wY_own_71
  have h' := tj_y83 h
  obtain ⟨p, q⟩ := v
  cases p <;> cases q <;> first | exact br_t (by decide) h' | exact br_f (by decide) h'
theorem tj_y57 {post : Int32 → Prop} {x2 : Int32} {v w : Bool × Bool} (h : wY_own_111 post x2 (tj_i v.1) (tj_i v.2) (tj_i w.1) (tj_i w.2) (nI (tj_cc Q)) (tj_lo Q) (tj_aK Q) fs ss (tj_aI Q) (tj_aM Q) (tj_aP Q) (tj_aD Q) (tj_aG Q) my kp) : wY_own_57 post x2 (tj_c v) (tj_c w) (nI (tj_cc Q)) (tj_lo Q) (tj_aK Q) fs ss (tj_aI Q) (tj_aM Q) (tj_aP Q) (tj_aD Q) (tj_aG Q) my kp := by
  unfold wY_own_57
  refine ⟨by decide, ?_⟩
  have h' := tj_y71 h
  obtain ⟨p, q⟩ := v
  cases p <;> cases q <;> first | exact br_t (by decide) h' | exact br_f (by decide) h'
theorem tj_base_g {V : Nat → Nat → Bool × Bool} {t n : Nat} (h0 : ¬ tj_K Q n = 0) (h5 : ¬ tj_K Q n = 5) : tj_base Q V t n = tj_gate (tj_K Q n) (V t (tj_F Q n)) (V t (tj_S Q n)) := by
  unfold tj_base
  rw [if_neg h0, if_neg h5]
  rfl
theorem tj_yown {post : Int32 → Prop} (hw : tj_W Q) (hf : tj_FS Q fs ss) {a t n : Nat} (ht : t < 4) (hn : n < tj_cc Q) (h0 : ¬ tj_K Q n = 0) (h5 : ¬ tj_K Q n = 5) (hd : tj_dY Q a my t n)
    (h : post (tj_c (tj_base Q (tj_V Q a) t n))) : wpY_own post (tj_Y Q fs ss my kp) (nI t) (nI n) := by
  obtain ⟨⟨hc, hK, hF, hF1, hF5, hS⟩, -⟩ := hw
  have k5 := hK n
  have f1 := hF1 n hn (by omega) (by omega)
  have i20 : vp_in (nI n) 20 := vp_in_nI (by omega) (by omega)
  have rK : tj_aK Q (nI n).toNatClampNeg = nI (tj_K Q n) := tj_rd _ (by omega)
  have rF : fs (nI n).toNatClampNeg = nI (tj_F Q n) := (tj_rd _ (by omega)).trans (hf.1 n (by omega))
  have ix : vp_in (nI (20 * t + tj_F Q n)) 80 := vp_in_nI (by omega) (by omega)
  have ex := nI_clamp (n := 20 * t + tj_F Q n) (by omega)
  have qx : my (20 * t + tj_F Q n) = tj_c (tj_V Q a t (tj_F Q n)) := hd t _ (by omega) (Or.inr ⟨rfl, f1⟩)
  rw [tj_base_g h0 h5] at h
  unfold wpY_own tj_Y
  dsimp only
  rw [rF, tj_ad, ex, qx]
  refine ⟨i20, ix, nm_e ⟨i20, pk_le (tj_K Q n) 1 (fun h1 => ?_) (fun h1 => ⟨i20, pk_le 5 (tj_K Q n) (fun h2 => ?_) (fun h2 => ⟨i20, ?_⟩) rfl rK⟩) rK⟩⟩
  · have e : tj_K Q n = 1 := by omega
    refine tj_y57 (w := (false, false)) (tj_y111 (v := tj_V Q a t (tj_F Q n)) (w := (false, false)) (by omega) (by omega) (by omega) ?_)
    rw [e] at h ⊢
    exact h
  · omega
  · have s1 := hS n hn (by omega) (by omega)
    have rS : ss (nI n).toNatClampNeg = nI (tj_S Q n) := (tj_rd _ (by omega)).trans (hf.2 n (by omega) (by omega))
    have iy : vp_in (nI (20 * t + tj_S Q n)) 80 := vp_in_nI (by omega) (by omega)
    have ey := nI_clamp (n := 20 * t + tj_S Q n) (by omega)
    have qy : my (20 * t + tj_S Q n) = tj_c (tj_V Q a t (tj_S Q n)) := hd t _ (by omega) (Or.inr ⟨rfl, s1⟩)
    rw [rS, tj_ad, ey, qy]
    exact ⟨iy, tj_y57 (tj_y111 (by omega) (by omega) (by omega) h)⟩
theorem tj_ybef {post : Int32 → Prop} (hw : tj_W Q) (hf : tj_FS Q fs ss) {a t n : Nat} (ht : t < 4) (hn : n < tj_cc Q) (hd : tj_dY Q a my t n)
    (h : post (tj_c (tj_base Q (tj_V Q a) t n))) : wpY_before post (tj_Y Q fs ss my kp) (nI t) (nI n) := by
  have hc := hw.1.1
  have k5 := hw.1.2.1 n
  have i20 : vp_in (nI n) 20 := vp_in_nI (by omega) (by omega)
  have rK : tj_aK Q (nI n).toNatClampNeg = nI (tj_K Q n) := tj_rd _ (by omega)
  unfold wpY_before tj_Y
  dsimp only
  unfold wY_before_25
  refine ⟨i20, pk_eq (tj_K Q n) 0 (fun h0 => ?_) (fun h0 => ⟨i20, pk_eq (tj_K Q n) 5 (fun h5 => pk_eq t 0 (fun t0 => ?_) (fun t0 => ⟨i20, br_t (by rw [rK, h5]; rfl) ?_⟩)) (fun h5 => ⟨i20, br_f (by rw [rK]; exact fun z => h5 ((nI_eq (b := 5) (by omega) (by omega)).mp z)) ?_⟩) rK⟩) rK⟩
  · unfold tj_base at h
    rw [if_pos h0] at h
    exact h
  · unfold tj_base at h
    rw [if_neg h0, if_pos h5, if_pos t0] at h
    exact h
  · have f5 := hw.1.2.2.2.2.1 n hn h5
    have rF : fs (nI n).toNatClampNeg = nI (tj_F Q n) := (tj_rd _ (by omega)).trans (hf.1 n (by omega))
    have e : ((20 : Int32) * nI t - 20) + nI (tj_F Q n) = nI (20 * (t - 1) + tj_F Q n) := by
      show nI 20 * nI t - nI 20 + nI (tj_F Q n) = _
      rw [pk_mul, pk_sub (by omega), nI_add]
      exact congrArg nI (by omega)
    have ix : vp_in (nI (20 * (t - 1) + tj_F Q n)) 80 := vp_in_nI (by omega) (by omega)
    have ex := nI_clamp (n := 20 * (t - 1) + tj_F Q n) (by omega)
    have qx : my (20 * (t - 1) + tj_F Q n) = tj_c (tj_V Q a (t - 1) (tj_F Q n)) := hd (t - 1) _ f5 (Or.inl (by omega))
    rw [rF, e, ex, qx]
    unfold tj_base at h
    rw [if_neg h0, if_pos h5, if_neg t0] at h
    exact ⟨i20, ix, h⟩
  · exact tj_yown hw hf ht hn h0 h5 hd h
theorem tj_cut_f (d : Bool) (w : Bool × Bool) : tj_cut false d w = w := by
  obtain ⟨z, o⟩ := w
  cases z <;> cases o <;> cases d <;> rfl
theorem tj_cut_t (d : Bool) (w : Bool × Bool) : tj_c w &&& ((1 : Int32) <<< (tj_i d &&& 31)) = tj_c (tj_cut true d w) := by
  obtain ⟨z, o⟩ := w
  cases z <;> cases o <;> cases d <;> decide
abbrev tj_JY : Type := Int32 → (Nat → Int32) → (Nat → Int32) → (Nat → Int32) → (Nat → Int32) → (Nat → Int32) → (Nat → Int32) → (Nat → Int32) → (Nat → Int32) → (Nat → Int32) → (Nat → Int32) → Prop
/-- the assumed items from k on -/
theorem tj_y28 {post : SY → Prop} {J2 J9 : tj_JY} (hw : tj_W Q) {a t i : Nat} (ha : a < 64) (ht : t < 4) (hi : i < tj_cc Q) {v : Bool × Bool}
    (hp : J9 (nI (i + 1)) (tj_aK Q) fs ss (tj_aI Q) (tj_aM Q) (tj_aP Q) (tj_aD Q) (tj_aG Q) (upd my (20 * t + i) (tj_c (tj_asm Q a t i v (tj_I Q 0)))) kp) :
    ∀ n k, k ≤ tj_I Q 0 → tj_I Q 0 < n + k → wY_follow_28 post J2 J9 (nI a) (nI t) (nI i) (nI (tj_cc Q)) (tj_lo Q) (tj_aK Q) fs ss (tj_aI Q) (tj_aM Q) (tj_aP Q) (tj_aD Q) (tj_aG Q) my kp n (tj_c (tj_asm Q a t i v k)) (nI k) := by
  intro n
  induction n with
  | zero => intro k _ h; omega
  | succ n ih =>
    intro k hk hn
    have hc := hw.1.1
    have hI : tj_I Q 0 ≤ 12 := hw.2.2.1
    have hT := hw.2.1 k
    refine pk_le (tj_I Q 0) k (fun h => ?_) (fun h => ?_)
    · have e : k = tj_I Q 0 := by omega
      have i80 : vp_in (nI (20 * t + i)) 80 := vp_in_nI (by omega) (by omega)
      have ej := nI_clamp (n := 20 * t + i) (by omega)
      rw [e, tj_ad t i, ej]
      exact ⟨i80, nm_e (nm_r (nI_1 i) hp)⟩
    · have i24 : vp_in (nI k) 24 := vp_in_nI (by omega) (by omega)
      have rM : tj_aM Q (nI k).toNatClampNeg = nI (tj_M Q k) := tj_rd _ (by omega)
      have rP : tj_aP Q (nI k).toNatClampNeg = nI (tj_P Q k) := tj_rd _ (by omega)
      have rD : tj_aD Q (nI k).toNatClampNeg = nI (tj_D Q k) := tj_rd _ (by omega)
      have rG : tj_aG Q (nI k).toNatClampNeg = nI (tj_G Q k) := tj_rd _ (by omega)
      have hM := hT.1
      have hP : tj_P Q k < 20 := by have := hT.2.1; omega
      have go := ih (k + 1) (by omega) (by omega)
      have skip : tj_asm Q a t i v (k + 1) = tj_asm Q a t i v k → wY_follow_90 post J2 J9 (wY_follow_28 post J2 J9 (nI a) (nI t) (nI i) (nI (tj_cc Q)) (tj_lo Q) (tj_aK Q) fs ss (tj_aI Q) (tj_aM Q) (tj_aP Q) (tj_aD Q) (tj_aG Q) my kp n) (nI a) (nI t) (nI i) (tj_c (tj_asm Q a t i v k)) (nI k) (nI (tj_cc Q)) (tj_lo Q) (tj_aK Q) fs ss (tj_aI Q) (tj_aM Q) (tj_aP Q) (tj_aD Q) (tj_aG Q) my kp := by
        intro e
        unfold wY_follow_90 wY_follow_91
        rw [e] at go
        exact br_t rfl (nm_r (nI_1 k) go)
      refine br_c (fun e3 => skip (tj_asm_n fun q => q.2.2 e3)) (fun e3 => ⟨i24, pk_eq (tj_M Q k) t (fun e1 => ⟨i24, pk_eq (tj_P Q k) i (fun e2 => ⟨i24, ?_⟩) (fun e2 => skip (tj_asm_n fun q => e2 q.2.1)) rP⟩) (fun e1 => skip (tj_asm_n fun q => e1 q.1)) rM⟩)
      rw [rG]
      refine tj_ylit _ hT.2.2.2 ha (tj_br1 (fun g => ?_) (fun g => skip ?_))
      · unfold wY_follow_91
        refine br_f (by decide) ⟨i24, ?_⟩
        rw [rD]
        refine tj_ylit _ hT.2.2.1 ha (nm_r (e' := tj_c (tj_asm Q a t i v (k + 1))) ?_ (nm_r (nI_1 k) go))
        rw [tj_cut_t, tj_asm_y e1 e2 e3, g]
      · rw [tj_asm_y e1 e2 e3, g, tj_cut_f]
theorem tj_dY_s {a : Nat} (hc : tj_cc Q ≤ 20) {t i : Nat} (hi : i < tj_cc Q) (hd : tj_dY Q a my t i) {x : Int32} (hx : x = tj_c (tj_V Q a t i)) : tj_dY Q a (upd my (20 * t + i) x) t (i + 1) := by
  intro t' n' hn' hl
  rcases tj_lt_s hl with l | ⟨rfl, rfl⟩
  · have e : 20 * t' + n' ≠ 20 * t + i := by unfold tj_lt at l; omega
    rw [pk_un e]
    exact hd t' n' hn' l
  · rw [pk_us]
    exact hx
theorem tj_dY_t {a t : Nat} (hd : tj_dY Q a my t (tj_cc Q)) : tj_dY Q a my (t + 1) 0 :=
  fun t' n' hn' hl => hd t' n' hn' (by unfold tj_lt at *; omega)
theorem tj_dY_0 {a : Nat} : tj_dY Q a my 0 0 := by
  intro t' n' hn' hl
  unfold tj_lt at hl
  omega
end
section
variable {Q : tj_C} {fs ss kp : Nat → Int32}
theorem tj_y9 {post : SY → Prop} {J2 : tj_JY} (hw : tj_W Q) (hf : tj_FS Q fs ss) {a t : Nat} (ha : a < 64) (ht : t < 4)
    (hp : ∀ my, tj_dY Q a my (t + 1) 0 → J2 (nI (t + 1)) (tj_aK Q) fs ss (tj_aI Q) (tj_aM Q) (tj_aP Q) (tj_aD Q) (tj_aG Q) my kp) :
    ∀ n i my, i ≤ tj_cc Q → tj_cc Q < n + i → tj_dY Q a my t i → wY_follow_9 post J2 (nI a) (nI t) (nI (tj_cc Q)) (tj_lo Q) n (nI i) (tj_aK Q) fs ss (tj_aI Q) (tj_aM Q) (tj_aP Q) (tj_aD Q) (tj_aG Q) my kp := by
  intro n
  induction n with
  | zero => intro i _ _ h; omega
  | succ n ih =>
    intro i my hi hn hd
    have hc := hw.1.1
    refine pk_le (tj_cc Q) i (fun h => ?_) (fun h => ?_)
    · have e : i = tj_cc Q := by omega
      rw [e] at hd
      exact nm_r (nI_1 t) (hp my (tj_dY_t hd))
    · refine tj_ybef (kp := kp) hw hf ht h hd ⟨tj_I Q 0 + 1, tj_y28 (v := tj_base Q (tj_V Q a) t i) hw ha ht h ?_ (tj_I Q 0 + 1) 0 (by omega) (by omega)⟩
      exact ih (i + 1) _ (by omega) (by omega) (tj_dY_s hc h hd (congrArg tj_c (tj_V_eq hw a ht h).symm))
theorem tj_y2 {post : SY → Prop} (hw : tj_W Q) (hf : tj_FS Q fs ss) {a : Nat} (ha : a < 64)
    (hp : ∀ my, tj_dY Q a my 4 0 → post (tj_Y Q fs ss my kp)) :
    ∀ n t my, t ≤ 4 → 4 < n + t → tj_dY Q a my t 0 → wY_follow_2 post (nI a) (nI (tj_cc Q)) (tj_lo Q) n (nI t) (tj_aK Q) fs ss (tj_aI Q) (tj_aM Q) (tj_aP Q) (tj_aD Q) (tj_aG Q) my kp := by
  intro n
  induction n with
  | zero => intro t _ _ h; omega
  | succ n ih =>
    intro t my ht hn hd
    refine pk_le 4 t (fun h => ?_) (fun h => ?_)
    · have e : t = 4 := by omega
      rw [e] at hd
      exact hp my hd
    · exact Exists.intro (tj_cc Q + 1) (tj_y9 hw hf ha h (fun my hd => ih (t + 1) my (by omega) (by omega) hd) (tj_cc Q + 1) 0 my (by omega) (by omega) hd)
theorem tj_yfol {post : SY → Prop} {my : Nat → Int32} (hw : tj_W Q) (hf : tj_FS Q fs ss) {a : Nat} (ha : a < 64)
    (hp : ∀ my, tj_dY Q a my 4 0 → post (tj_Y Q fs ss my kp)) : wpY_follow post (tj_Y Q fs ss my kp) (nI a) := by
  unfold wpY_follow tj_Y
  dsimp only
  exact ⟨5, tj_y2 hw hf ha hp 5 0 my (by omega) (by omega) tj_dY_0⟩
end
end
section
/-! the reference: idle, breaking, failing, counting -/
theorem tj_dec (P : Prop) : ∃ b : Bool, (b = true ↔ P) := by
  by_cases h : P
  · exact ⟨true, fun _ => h, fun _ => rfl⟩
  · exact ⟨false, fun z => (by cases z), fun z => absurd z h⟩
theorem tj_nt {b : Bool} {P : Prop} (e : b = true ↔ P) (h : ¬ P) : b = false := by
  cases b
  · rfl
  · exact absurd (e.mp rfl) h
theorem tj_cbit (d : Bool) (v : Bool × Bool) : ((tj_c v >>> ((1 - tj_i d) &&& 31)) &&& 1 = 1) ↔ (bif d then v.1 else v.2) = true := by
  obtain ⟨z, o⟩ := v
  cases z <;> cases o <;> cases d <;> decide
section
variable {Q : tj_C} {fs ss my kp : Nat → Int32}
theorem tj_yid9 {post : Int32 → Prop} {J2 : Int32 → Prop} (hw : tj_W Q) {a t : Nat} (ht : t < 4) (hd : tj_dY Q a my 4 0) (h1 : tj_Idle Q a → post 1)
    (hp : ¬ tj_E Q a (t + 1) 0 → J2 (nI (t + 1))) :
    ∀ n i, i ≤ tj_cc Q → tj_cc Q < n + i → ¬ tj_E Q a t i → wY_isIdle_9 post J2 (nI t) (nI (tj_cc Q)) (tj_lo Q) (tj_aK Q) fs ss (tj_aI Q) (tj_aM Q) (tj_aP Q) (tj_aD Q) (tj_aG Q) my kp n (nI i) := by
  intro n
  induction n with
  | zero => intro i _ h; omega
  | succ n ih =>
    intro i hi hn he
    have hc := hw.1.1
    refine pk_le (tj_cc Q) i (fun h => ?_) (fun h => ?_)
    · have e : i = tj_cc Q := by omega
      rw [e] at he
      exact nm_r (nI_1 t) (hp fun z => he (tj_E_t.mpr z))
    · have i80 : vp_in (nI (20 * t + i)) 80 := vp_in_nI (by omega) (by omega)
      have ej := nI_clamp (n := 20 * t + i) (by omega)
      have q : my (20 * t + i) = tj_c (tj_V Q a t i) := hd t i h (Or.inl ht)
      rw [tj_ad t i, ej, q]
      refine ⟨i80, br_c (fun z => h1 ⟨t, i, h, Or.inl ht, tj_c0.mp z⟩) (fun z => nm_r (nI_1 i) (ih (i + 1) (by omega) (by omega) fun y => ?_))⟩
      rcases (tj_E_s h).mp y with y | y
      · exact he y
      · exact z (tj_c0.mpr y)
theorem tj_yid2 {post : Int32 → Prop} (hw : tj_W Q) {a : Nat} (hd : tj_dY Q a my 4 0) (h1 : tj_Idle Q a → post 1) (h0 : ¬ tj_Idle Q a → post 0) :
    ∀ n t, t ≤ 4 → 4 < n + t → ¬ tj_E Q a t 0 → wY_isIdle_2 post (nI (tj_cc Q)) (tj_lo Q) (tj_aK Q) fs ss (tj_aI Q) (tj_aM Q) (tj_aP Q) (tj_aD Q) (tj_aG Q) my kp n (nI t) := by
  intro n
  induction n with
  | zero => intro t _ h; omega
  | succ n ih =>
    intro t ht hn he
    refine pk_le 4 t (fun h => ?_) (fun h => ?_)
    · have e : t = 4 := by omega
      rw [e] at he
      exact h0 he
    · exact Exists.intro (tj_cc Q + 1) (tj_yid9 hw h hd h1 (fun z => ih (t + 1) (by omega) (by omega) z) (tj_cc Q + 1) 0 (by omega) (by omega) he)
theorem tj_yid {post : Int32 → Prop} (hw : tj_W Q) {a : Nat} (hd : tj_dY Q a my 4 0) {p : Bool} (e : p = true ↔ tj_Idle Q a) (h : post (tj_i p)) : wpY_isIdle post (tj_Y Q fs ss my kp) := by
  unfold wpY_isIdle tj_Y
  dsimp only
  refine ⟨5, tj_yid2 hw hd (fun z => ?_) (fun z => ?_) 5 0 (by omega) (by omega) tj_E_0⟩
  · rw [e.mpr z] at h
    exact h
  · rw [tj_nt e z] at h
    exact h
theorem tj_ybrk {post : Int32 → Prop} (hw : tj_W Q) {a k : Nat} (ha : a < 64) (hk : k < tj_I Q 1) (hd : tj_dY Q a my 4 0) (h : post (tj_i (tj_brk Q a k))) : wpY_breaks post (tj_Y Q fs ss my kp) (nI k) (nI a) := by
  have h12 := hw.2.2.2.1
  have hT := hw.2.1 (12 + k)
  have hP := tj_place hw hk
  have hc := hw.1.1
  have hM := hT.1
  have i24 : vp_in (nI (12 + k)) 24 := vp_in_nI (by omega) (by omega)
  have i80 : vp_in (nI (20 * tj_M Q (12 + k) + tj_P Q (12 + k))) 80 := vp_in_nI (by omega) (by omega)
  have ej := nI_clamp (n := 20 * tj_M Q (12 + k) + tj_P Q (12 + k)) (by omega)
  have rM : tj_aM Q (nI (12 + k)).toNatClampNeg = nI (tj_M Q (12 + k)) := tj_rd _ (by omega)
  have rP : tj_aP Q (nI (12 + k)).toNatClampNeg = nI (tj_P Q (12 + k)) := tj_rd _ (by omega)
  have rD : tj_aD Q (nI (12 + k)).toNatClampNeg = nI (tj_D Q (12 + k)) := tj_rd _ (by omega)
  have rG : tj_aG Q (nI (12 + k)).toNatClampNeg = nI (tj_G Q (12 + k)) := tj_rd _ (by omega)
  have q : my (20 * tj_M Q (12 + k) + tj_P Q (12 + k)) = tj_c (tj_V Q a (tj_M Q (12 + k)) (tj_P Q (12 + k))) := hd _ _ hP (Or.inl hM)
  unfold wpY_breaks tj_Y
  dsimp only
  refine nm_r (tj_ad12 k) ⟨i24, ?_⟩
  rw [rG, rM, rP, tj_ad, ej, q]
  unfold tj_brk at h
  refine tj_ylit _ hT.2.2.2 ha (tj_br0 (fun g => ?_) (fun g => ⟨i24, ?_⟩))
  · rw [g] at h
    exact h
  · rw [rD]
    rw [g, Bool.true_and] at h
    refine tj_ylit _ hT.2.2.1 ha (nm_e ⟨i24, i24, i80, tj_brb (tj_cbit _ _) (fun z => ?_) (fun z => ?_)⟩)
    · rw [z] at h
      exact h
    · rw [z] at h
      exact h
theorem tj_yfn_l {post : Int32 → Prop} (hw : tj_W Q) {a : Nat} (ha : a < 64) (hd : tj_dY Q a my 4 0) (h1 : tj_any Q a (tj_I Q 1) → post 1) (h0 : ¬ tj_any Q a (tj_I Q 1) → post 0) :
    ∀ n k, k ≤ tj_I Q 1 → tj_I Q 1 < n + k → ¬ tj_any Q a k → wY_failsNow_11 post (nI a) (nI (tj_cc Q)) (tj_lo Q) (tj_aK Q) fs ss (tj_aI Q) (tj_aM Q) (tj_aP Q) (tj_aD Q) (tj_aG Q) my kp n (nI k) := by
  intro n
  induction n with
  | zero => intro k _ h; omega
  | succ n ih =>
    intro k hk hn he
    have h12 := hw.2.2.2.1
    refine pk_le (tj_I Q 1) k (fun h => ?_) (fun h => ?_)
    · have e : k = tj_I Q 1 := by omega
      rw [e] at he
      exact h0 he
    · refine tj_ybrk (kp := kp) (fs := fs) (ss := ss) hw ha h hd (tj_br0 (fun z => nm_r (nI_1 k) (ih (k + 1) (by omega) (by omega) fun y => ?_)) (fun z => h1 ⟨k, h, z⟩))
      rcases tj_any_s.mp y with y | y
      · exact he y
      · rw [z] at y
        cases y
theorem tj_yfn {post : Int32 → Prop} (hw : tj_W Q) {a : Nat} (ha : a < 64) (hd : tj_dY Q a my 4 0) {p : Bool} (e : p = true ↔ tj_Fail Q a) (h : post (tj_i p)) : wpY_failsNow post (tj_Y Q fs ss my kp) (nI a) := by
  unfold wpY_failsNow tj_Y
  dsimp only
  obtain ⟨q, hq⟩ := tj_dec (tj_Idle Q a)
  refine tj_yid (fs := fs) (ss := ss) (kp := kp) hw hd hq (tj_br0 (fun z => ?_) (fun z => ?_))
  · have ni : ¬ tj_Idle Q a := fun y => by rw [hq.mpr y] at z; cases z
    refine ⟨tj_I Q 1 + 1, tj_yfn_l hw ha hd (fun y => ?_) (fun y => ?_) _ 0 (by omega) (by omega) tj_any_0⟩
    · rw [e.mpr ⟨ni, y⟩] at h
      exact h
    · rw [tj_nt e (fun w => y w.2)] at h
      exact h
  · rw [tj_nt e (fun w => w.1 (hq.mp z))] at h
    exact h
end
section
variable {Q : tj_C} {fs ss kp : Nat → Int32}
theorem tj_n_t {p : Nat → Bool} {a : Nat} (h : p a = true) : tj_n p (a + 1) = tj_n p a + 1 := by
  show tj_n p a + (p a).toNat = _
  rw [h]
  rfl
theorem tj_n_f {p : Nat → Bool} {a : Nat} (h : p a = false) : tj_n p (a + 1) = tj_n p a := by
  show tj_n p a + (p a).toNat = _
  rw [h]
  rfl
theorem tj_ycf_l {post : Int32 → SY → Prop} (hw : tj_W Q) (hf : tj_FS Q fs ss) {p : Nat → Bool} (e : ∀ a, a < 64 → (p a = true ↔ tj_Fail Q a)) (h : ∀ my, post (nI (tj_n p 64)) (tj_Y Q fs ss my kp)) :
    ∀ n a my, a ≤ 64 → 64 < n + a → wY_countFails_4 post n (nI (tj_n p a)) (nI a) (nI (tj_cc Q)) (tj_lo Q) (tj_aK Q) fs ss (tj_aI Q) (tj_aM Q) (tj_aP Q) (tj_aD Q) (tj_aG Q) my kp := by
  intro n
  induction n with
  | zero => intro a _ _ h; omega
  | succ n ih =>
    intro a my ha hn
    refine pk_le 64 a (fun h64 => ?_) (fun h64 => ?_)
    · have e : a = 64 := by omega
      rw [e]
      exact h my
    · refine tj_yfol (my := my) hw hf h64 (fun my hd => ?_)
      refine tj_yfn (kp := kp) (fs := fs) (ss := ss) hw h64 hd (e a h64) (tj_br0 (fun z => ?_) (fun z => ?_))
      · have g := ih (a + 1) my (by omega) (by omega)
        rw [tj_n_f z] at g
        exact nm_r (nI_1 a) g
      · have g := ih (a + 1) my (by omega) (by omega)
        rw [tj_n_t z] at g
        exact nm_r (nI_1 _) (nm_r (nI_1 a) g)
theorem tj_ycf {post : Int32 → SY → Prop} {my : Nat → Int32} (hw : tj_W Q) (hf : tj_FS Q fs ss) {p : Nat → Bool} (e : ∀ a, a < 64 → (p a = true ↔ tj_Fail Q a)) (h : ∀ my, post (nI (tj_n p 64)) (tj_Y Q fs ss my kp)) : wpY_countFails post (tj_Y Q fs ss my kp) := by
  unfold wpY_countFails tj_Y
  dsimp only
  exact ⟨65, tj_ycf_l hw hf e h 65 0 my (by omega) (by omega)⟩
theorem tj_yidle_l {post : Int32 → SY → Prop} (hw : tj_W Q) (hf : tj_FS Q fs ss) {p : Nat → Bool} (e : ∀ a, a < 64 → (p a = true ↔ tj_Idle Q a)) (h : ∀ my, post (nI (tj_n p 64)) (tj_Y Q fs ss my kp)) :
    ∀ n a my, a ≤ 64 → 64 < n + a → wY_idle_4 post n (nI (tj_n p a)) (nI a) (nI (tj_cc Q)) (tj_lo Q) (tj_aK Q) fs ss (tj_aI Q) (tj_aM Q) (tj_aP Q) (tj_aD Q) (tj_aG Q) my kp := by
  intro n
  induction n with
  | zero => intro a _ _ h; omega
  | succ n ih =>
    intro a my ha hn
    refine pk_le 64 a (fun h64 => ?_) (fun h64 => ?_)
    · have e : a = 64 := by omega
      rw [e]
      exact h my
    · refine tj_yfol (my := my) hw hf h64 (fun my hd => ?_)
      refine tj_yid (kp := kp) (fs := fs) (ss := ss) hw hd (e a h64) (tj_br0 (fun z => ?_) (fun z => ?_))
      · have g := ih (a + 1) my (by omega) (by omega)
        rw [tj_n_f z] at g
        exact nm_r (nI_1 a) g
      · have g := ih (a + 1) my (by omega) (by omega)
        rw [tj_n_t z] at g
        exact nm_r (nI_1 _) (nm_r (nI_1 a) g)
theorem tj_yidle {post : Int32 → SY → Prop} {my : Nat → Int32} (hw : tj_W Q) (hf : tj_FS Q fs ss) {p : Nat → Bool} (e : ∀ a, a < 64 → (p a = true ↔ tj_Idle Q a)) (h : ∀ my, post (nI (tj_n p 64)) (tj_Y Q fs ss my kp)) : wpY_idle post (tj_Y Q fs ss my kp) := by
  unfold wpY_idle tj_Y
  dsimp only
  exact ⟨65, tj_yidle_l hw hf e h 65 0 my (by omega) (by omega)⟩
/-- the first that holds, from i on -/
def tj_fst (p : Nat → Bool) : Nat → Nat → Int32
  | 0, _ => -4
  | f + 1, i => bif p i then nI i else tj_fst p f (i + 1)
theorem tj_yfst_l {post : Int32 → SY → Prop} (hw : tj_W Q) (hf : tj_FS Q fs ss) {p : Nat → Bool} (e : ∀ a, a < 64 → (p a = true ↔ tj_Fail Q a)) :
    ∀ n a my, a + n = 64 → (∀ my, post (tj_fst p n a) (tj_Y Q fs ss my kp)) → wY_first_2 post (n + 1) (nI a) (nI (tj_cc Q)) (tj_lo Q) (tj_aK Q) fs ss (tj_aI Q) (tj_aM Q) (tj_aP Q) (tj_aD Q) (tj_aG Q) my kp := by
  intro n
  induction n with
  | zero =>
    intro a my ha h
    exact pk_le 64 a (fun _ => h my) (fun z => by omega)
  | succ n ih =>
    intro a my ha h
    refine pk_le 64 a (fun h64 => by omega) (fun h64 => ?_)
    refine tj_yfol (my := my) hw hf h64 (fun my hd => ?_)
    refine tj_yfn (kp := kp) (fs := fs) (ss := ss) hw h64 hd (e a h64) (tj_br0 (fun z => ?_) (fun z => ?_))
    · refine nm_r (nI_1 a) (ih (a + 1) my (by omega) fun my => ?_)
      have g : post (bif p a then nI a else tj_fst p n (a + 1)) (tj_Y Q fs ss my kp) := h my
      rw [z] at g
      exact g
    · have g : post (bif p a then nI a else tj_fst p n (a + 1)) (tj_Y Q fs ss my kp) := h my
      rw [z] at g
      exact g
theorem tj_yfst {post : Int32 → SY → Prop} {my : Nat → Int32} (hw : tj_W Q) (hf : tj_FS Q fs ss) {p : Nat → Bool} (e : ∀ a, a < 64 → (p a = true ↔ tj_Fail Q a)) (h : ∀ my, post (tj_fst p 64 0) (tj_Y Q fs ss my kp)) : wpY_first post (tj_Y Q fs ss my kp) := by
  unfold wpY_first tj_Y
  dsimp only
  exact ⟨65, tj_yfst_l hw hf e 64 0 my (by omega) h⟩
theorem tj_yfo_l {post : Int32 → SY → Prop} (hw : tj_W Q) (hf : tj_FS Q fs ss) {k : Nat} (hk : k < tj_I Q 1) {p : Nat → Bool} (e : ∀ a, a < 64 → (p a = true ↔ ¬ tj_Idle Q a ∧ tj_brk Q a k = true)) (h : ∀ my, post (nI (tj_n p 64)) (tj_Y Q fs ss my kp)) :
    ∀ n a my, a ≤ 64 → 64 < n + a → wY_failsOf_21 post (nI k) n (nI (tj_n p a)) (nI a) (nI (tj_cc Q)) (tj_lo Q) (tj_aK Q) fs ss (tj_aI Q) (tj_aM Q) (tj_aP Q) (tj_aD Q) (tj_aG Q) my kp := by
  intro n
  induction n with
  | zero => intro a _ _ h; omega
  | succ n ih =>
    intro a my ha hn
    refine pk_le 64 a (fun h64 => ?_) (fun h64 => ?_)
    · have e : a = 64 := by omega
      rw [e]
      exact h my
    · refine tj_yfol (my := my) hw hf h64 (fun my hd => ?_)
      have g := ih (a + 1) my (by omega) (by omega)
      have g0 : p a = false → wY_failsOf_52 post (wY_failsOf_21 post (nI k) n) (nI k) (nI (tj_n p a)) (nI a) (nI (tj_cc Q)) (tj_lo Q) (tj_aK Q) fs ss (tj_aI Q) (tj_aM Q) (tj_aP Q) (tj_aD Q) (tj_aG Q) my kp := by
        intro z
        rw [tj_n_f z] at g
        unfold wY_failsOf_52 wY_failsOf_53
        exact br_t rfl (nm_r (nI_1 a) g)
      obtain ⟨q, hq⟩ := tj_dec (tj_Idle Q a)
      refine tj_yid (kp := kp) (fs := fs) (ss := ss) hw hd hq (tj_br0 (fun z => ?_) (fun z => g0 (tj_nt (e a h64) fun w => w.1 (hq.mp z))))
      have ni : ¬ tj_Idle Q a := fun y => by rw [hq.mpr y] at z; cases z
      refine tj_ybrk (kp := kp) (fs := fs) (ss := ss) hw h64 hk hd (tj_br0 (fun y => g0 (tj_nt (e a h64) fun w => by rw [y] at w; cases w.2)) (fun y => ?_))
      rw [tj_n_t ((e a h64).mpr ⟨ni, y⟩)] at g
      unfold wY_failsOf_53
      exact br_f (by decide) (nm_r (nI_1 _) (nm_r (nI_1 a) g))
end
end
section
/-! arguments; keeping all assignments' codes; the loops of the questions -/
section
variable {Q : tj_C} {kn : Int32} {il fl : Int64} {mz mo : Nat → Int64} {fs ss my kp : Nat → Int32}
theorem tj_lt4 {v : Int32} {m : Nat} (hm : m < 2 ^ 31) (h : nI m ≤ v) : ¬ v < 0 ∧ ¬ v < nI m := by
  have h0 : (nI m).toInt = (m : Int) := nI_toInt hm
  rw [Int32.le_iff_toInt_le, h0] at h
  rw [Int32.lt_iff_toInt_lt, Int32.lt_iff_toInt_lt, h0, Int32.toInt_zero]
  omega
theorem tj_le3 {v : Int32} {m : Nat} (hm : m + 1 < 2 ^ 31) (h : nI (m + 1) ≤ v) : ¬ v ≤ nI m := by
  have h0 : (nI (m + 1)).toInt = ((m + 1 : Nat) : Int) := nI_toInt hm
  have h1 : (nI m).toInt = (m : Int) := nI_toInt (by omega)
  rw [Int32.le_iff_toInt_le, h0] at h
  rw [Int32.le_iff_toInt_le, h1]
  omega
theorem tj_xnn0 {post : Int32 → Prop} {i : Nat} (hc : tj_cc Q ≤ 20) (hi : i < tj_cc Q) (h : post 0) : wpX_noNode post (tj_X Q kn il fl mz mo) (nI i) := by
  unfold wpX_noNode tj_X
  dsimp only
  exact br_f (nI_pos (by omega)) (br_t (nI_lt hi (by omega)) h)
theorem tj_xnn1 {post : Int32 → Prop} {v : Int32} (hc : tj_cc Q ≤ 20) (hv : v < 0 ∨ nI (tj_cc Q) ≤ v) (h : post 1) : wpX_noNode post (tj_X Q kn il fl mz mo) v := by
  unfold wpX_noNode tj_X
  dsimp only
  rcases hv with hv | hv
  · exact br_t hv h
  · have q := tj_lt4 (by omega) hv
    exact br_f q.1 (br_f q.2 h)
theorem tj_ynn0 {post : Int32 → Prop} {i : Nat} (hc : tj_cc Q ≤ 20) (hi : i < tj_cc Q) (h : post 0) : wpY_noNode post (tj_Y Q fs ss my kp) (nI i) := by
  unfold wpY_noNode tj_Y
  dsimp only
  exact br_f (nI_pos (by omega)) (br_t (nI_lt hi (by omega)) h)
theorem tj_ynn1 {post : Int32 → Prop} {v : Int32} (hc : tj_cc Q ≤ 20) (hv : v < 0 ∨ nI (tj_cc Q) ≤ v) (h : post 1) : wpY_noNode post (tj_Y Q fs ss my kp) v := by
  unfold wpY_noNode tj_Y
  dsimp only
  rcases hv with hv | hv
  · exact br_t hv h
  · have q := tj_lt4 (by omega) hv
    exact br_f q.1 (br_f q.2 h)
theorem tj_ynm0 {post : Int32 → Prop} {t : Nat} (ht : t < 4) (h : post 0) : wpY_noMoment post (tj_Y Q fs ss my kp) (nI t) := by
  unfold wpY_noMoment tj_Y
  dsimp only
  exact br_f (nI_pos (by omega)) (br_t (nI_le (b := 3) (by omega) (by omega)) h)
theorem tj_ynm1 {post : Int32 → Prop} {v : Int32} (hv : v < 0 ∨ nI 4 ≤ v) (h : post 1) : wpY_noMoment post (tj_Y Q fs ss my kp) v := by
  unfold wpY_noMoment tj_Y
  dsimp only
  rcases hv with hv | hv
  · exact br_t hv h
  · exact br_f (tj_lt4 (by omega) hv).1 (br_f (tj_le3 (m := 3) (by omega) hv) h)
theorem tj_xbm0 {post : Int32 → Prop} {t i : Nat} (hc : tj_cc Q ≤ 20) (ht : t < 4) (hi : i < tj_cc Q) (h : post 0) : wpX_badMoment post (tj_X Q kn il fl mz mo) (nI t) (nI i) := by
  unfold wpX_badMoment tj_X
  dsimp only
  exact br_f (nI_pos (by omega)) (br_f (nI_ge (b := 4) ht (by omega)) (tj_xnn0 hc hi (br_t rfl h)))
theorem tj_xbm1 {post : Int32 → Prop} {v w : Int32} (hc : tj_cc Q ≤ 20) (hv : (v < 0 ∨ nI 4 ≤ v) ∨ (w < 0 ∨ nI (tj_cc Q) ≤ w)) (h : post 1) : wpX_badMoment post (tj_X Q kn il fl mz mo) v w := by
  unfold wpX_badMoment tj_X
  dsimp only
  refine br_c (fun _ => h) (fun h0 => br_c (fun _ => h) (fun h4 => ?_))
  rcases hv with (hv | hv) | hv
  · exact absurd hv h0
  · exact absurd hv h4
  · exact tj_xnn1 hc hv (br_f (by decide) h)
/-- a bad moment or node: the reference -/
theorem tj_ybad {v w : Int32} {B C : Prop} (hc : tj_cc Q ≤ 20) (hv : (v < 0 ∨ nI 4 ≤ v) ∨ (w < 0 ∨ nI (tj_cc Q) ≤ w)) (h : C) :
    wpY_noMoment (fun r_1 => ((r_1 = 0 → (wpY_noNode (fun r_15 => ((r_15 = 0 → B) ∧ (¬ r_15 = 0 → C))) (tj_Y Q fs ss my kp) w)) ∧ (¬ r_1 = 0 → C))) (tj_Y Q fs ss my kp) v := by
  rcases pk_ix v (n := 4) (by omega) with q | q | ⟨t, ht, rfl⟩
  · exact tj_ynm1 (Or.inl q) (br_f (by decide) h)
  · exact tj_ynm1 (Or.inr q) (br_f (by decide) h)
  · rcases hv with (hv | hv) | hv
    · exact absurd hv (nI_pos (by omega))
    · exact absurd hv (nI_ge ht (by omega))
    · exact tj_ynm0 ht (br_t rfl (tj_ynn1 hc hv (br_f (by decide) h)))
theorem tj_ygood {t i : Nat} {B C : Prop} (hc : tj_cc Q ≤ 20) (ht : t < 4) (hi : i < tj_cc Q) (h : B) :
    wpY_noMoment (fun r_1 => ((r_1 = 0 → (wpY_noNode (fun r_15 => ((r_15 = 0 → B) ∧ (¬ r_15 = 0 → C))) (tj_Y Q fs ss my kp) (nI i))) ∧ (¬ r_1 = 0 → C))) (tj_Y Q fs ss my kp) (nI t) :=
  tj_ynm0 ht (br_t rfl (tj_ynn0 hc hi (br_t rfl h)))
/-- a moment and a node, or none -/
theorem tj_args (Q : tj_C) (hc : tj_cc Q ≤ 20) (v w : Int32) : (∃ t i, t < 4 ∧ i < tj_cc Q ∧ v = nI t ∧ w = nI i) ∨ ((v < 0 ∨ nI 4 ≤ v) ∨ (w < 0 ∨ nI (tj_cc Q) ≤ w)) := by
  rcases pk_ix v (n := 4) (by omega) with q | q | ⟨t, ht, rfl⟩
  · exact Or.inr (Or.inl (Or.inl q))
  · exact Or.inr (Or.inl (Or.inr q))
  · rcases pk_ix w (n := tj_cc Q) (by omega) with q | q | ⟨i, hi, rfl⟩
    · exact Or.inr (Or.inr (Or.inl q))
    · exact Or.inr (Or.inr (Or.inr q))
    · exact Or.inl ⟨t, i, ht, hi, rfl, rfl⟩
end
section
variable {Q : tj_C} {fs ss : Nat → Int32}
theorem tj_ykeep_l {post : SY → Prop} (hw : tj_W Q) (hf : tj_FS Q fs ss) {t i : Nat} (ht : t < 4) (hi : i < tj_cc Q)
    (h : ∀ my kp, (∀ a, a < 64 → kp a = tj_c (tj_V Q a t i)) → post (tj_Y Q fs ss my kp)) :
    ∀ n a my kp, a ≤ 64 → 64 < n + a → (∀ b, b < a → kp b = tj_c (tj_V Q b t i)) → wY_keep_2 post (nI t) (nI i) n (nI a) (nI (tj_cc Q)) (tj_lo Q) (tj_aK Q) fs ss (tj_aI Q) (tj_aM Q) (tj_aP Q) (tj_aD Q) (tj_aG Q) my kp := by
  intro n
  induction n with
  | zero => intro a _ _ _ h; omega
  | succ n ih =>
    intro a my kp ha hn hk
    have hc := hw.1.1
    refine pk_le 64 a (fun h64 => ?_) (fun h64 => ?_)
    · have e : a = 64 := by omega
      rw [e] at hk
      exact h my kp hk
    · refine tj_yfol (my := my) hw hf h64 (fun my hd => ?_)
      have i80 : vp_in (nI (20 * t + i)) 80 := vp_in_nI (by omega) (by omega)
      have i64 : vp_in (nI a) 64 := vp_in_nI h64 (by omega)
      have ej := nI_clamp (n := 20 * t + i) (by omega)
      have ea := nI_clamp (n := a) (by omega)
      have q : my (20 * t + i) = tj_c (tj_V Q a t i) := hd t i hi (Or.inl ht)
      unfold tj_Y
      dsimp only
      rw [tj_ad t i, ej, ea, q]
      refine ⟨i80, i64, nm_e (nm_r (nI_1 a) (ih (a + 1) my _ (by omega) (by omega) fun b hb => ?_))⟩
      by_cases e : b = a
      · rw [e, pk_us]
      · rw [pk_un e]
        exact hk b (by omega)
theorem tj_ykeep {post : SY → Prop} {my kp : Nat → Int32} (hw : tj_W Q) (hf : tj_FS Q fs ss) {t i : Nat} (ht : t < 4) (hi : i < tj_cc Q)
    (h : ∀ my kp, (∀ a, a < 64 → kp a = tj_c (tj_V Q a t i)) → post (tj_Y Q fs ss my kp)) : wpY_keep post (tj_Y Q fs ss my kp) (nI t) (nI i) := by
  unfold wpY_keep tj_Y
  dsimp only
  exact ⟨65, tj_ykeep_l hw hf ht hi h 65 0 my kp (by omega) (by omega) (fun b hb => by omega)⟩
end
section
variable {Q : tj_C} {fs ss my kp : Nat → Int32}
theorem tj_ydef {post : Int32 → SY → Prop} {v : Nat → Bool × Bool} (hk : ∀ a, a < 64 → kp a = tj_c (v a)) {p : Nat → Bool} (e : ∀ a, a < 64 → p a = ((v a).1 ^^ (v a).2)) (h : post (nI (tj_n p 64)) (tj_Y Q fs ss my kp)) :
    ∀ n a, a ≤ 64 → 64 < n + a → wY_definite_29 post (nI (tj_cc Q)) (tj_lo Q) (tj_aK Q) fs ss (tj_aI Q) (tj_aM Q) (tj_aP Q) (tj_aD Q) (tj_aG Q) my kp n (nI (tj_n p a)) (nI a) := by
  intro n
  induction n with
  | zero => intro a _ h; omega
  | succ n ih =>
    intro a ha hn
    refine pk_le 64 a (fun h64 => ?_) (fun h64 => ?_)
    · have e : a = 64 := by omega
      rw [e]
      exact h
    · have i64 : vp_in (nI a) 64 := vp_in_nI h64 (by omega)
      have g := ih (a + 1) (by omega) (by omega)
      have q : kp (nI a).toNatClampNeg = tj_c (v a) := (tj_rd kp (by omega)).trans (hk a h64)
      have ep := e a h64
      rw [q]
      revert ep
      rcases v a with ⟨z, o⟩
      intro ep
      cases z <;> cases o
      · rw [tj_n_f ep] at g
        exact ⟨i64, br_f (by decide) ⟨i64, br_f (by decide) (nm_r (nI_1 a) g)⟩⟩
      · rw [tj_n_t ep] at g
        exact ⟨i64, br_f (by decide) ⟨i64, br_t rfl (nm_r (nI_1 _) (nm_r (nI_1 a) g))⟩⟩
      · rw [tj_n_t ep] at g
        exact ⟨i64, br_t rfl (nm_r (nI_1 _) (nm_r (nI_1 a) g))⟩
      · rw [tj_n_f ep] at g
        exact ⟨i64, br_f (by decide) ⟨i64, br_f (by decide) (nm_r (nI_1 a) g)⟩⟩
/-- the variables of a set, as bits -/
def tj_set (d : Nat → Bool) : Nat → Int32
  | 0 => 0
  | k + 1 => bif d k then tj_set d k ||| ((1 : Int32) <<< (nI k &&& 31)) else tj_set d k
theorem tj_xk : ∀ k, k < 6 → ∀ a, a < 64 → nI a ^^^ ((1 : Int32) <<< (nI k &&& 31)) = nI (a ^^^ 2 ^ k) ∧ a ^^^ 2 ^ k < 64 := by decide +kernel
theorem tj_sk : ∀ k, k < 6 → (1 : Int32) <<< (nI k &&& 31) = nI (2 ^ k) := by decide +kernel
theorem tj_pk1 : ∀ k, k < 6 → ∀ a, a < 64 → a.testBit k = false → 2 ^ k + a = a ^^^ 2 ^ k ∧ 2 ^ k + a < 64 := by decide +kernel
theorem tj_pk2 : ∀ k, k < 6 → ∀ a, a < 64 → a.testBit k = true → (a ^^^ 2 ^ k).testBit k = false ∧ (a ^^^ 2 ^ k) ^^^ 2 ^ k = a ∧ a ^^^ 2 ^ k < 64 := by decide +kernel
theorem tj_oo (x m : Int32) : (x ||| m) ||| m = x ||| m := by
  apply b_ext
  intro i _
  rw [b_or, b_or]
  cases bt x i <;> cases bt m i <;> rfl
theorem tj_yn39 {post : Int32 → SY → Prop} {J29 : Int32 → Int32 → Prop} {v : Nat → Bool × Bool} (hk : ∀ a, a < 64 → kp a = tj_c (v a)) {k : Nat} (h6 : k < 6) {d : Bool} (hd : d = true ↔ ∃ a, a < 64 ∧ ¬ v a = v (a ^^^ 2 ^ k)) {s : Int32}
    (h : J29 (bif d then s ||| ((1 : Int32) <<< (nI k &&& 31)) else s) (nI (k + 1))) :
    ∀ n a x, a ≤ 64 → 64 < n + a → ((x = s ∧ ∀ b, b < a → v b = v (b ^^^ 2 ^ k)) ∨ (x = s ||| ((1 : Int32) <<< (nI k &&& 31)) ∧ d = true)) → wY_needs_39 post J29 (nI k) (nI (tj_cc Q)) (tj_lo Q) (tj_aK Q) fs ss (tj_aI Q) (tj_aM Q) (tj_aP Q) (tj_aD Q) (tj_aG Q) my kp n x (nI a) := by
  intro n
  induction n with
  | zero => intro a _ _ h; omega
  | succ n ih =>
    intro a x ha hn hx
    refine pk_le 64 a (fun h64 => ?_) (fun h64 => ?_)
    · have e : a = 64 := by omega
      rw [e] at hx
      refine nm_r (nI_1 k) ?_
      rcases hx with ⟨rfl, hx⟩ | ⟨rfl, hx⟩
      · rw [tj_nt hd (fun ⟨b, hb, hv⟩ => hv (hx b hb))] at h
        exact h
      · rw [hx] at h
        exact h
    · have i64 : vp_in (nI a) 64 := vp_in_nI h64 (by omega)
      obtain ⟨exk, hxk⟩ := tj_xk k h6 a h64
      have i64' : vp_in (nI (a ^^^ 2 ^ k)) 64 := vp_in_nI hxk (by omega)
      have q : kp (nI a).toNatClampNeg = tj_c (v a) := (tj_rd kp (by omega)).trans (hk a h64)
      have q' : kp (nI (a ^^^ 2 ^ k)).toNatClampNeg = tj_c (v (a ^^^ 2 ^ k)) := (tj_rd kp (by omega)).trans (hk _ hxk)
      rw [exk, q, q']
      refine ⟨i64, i64', br_c (fun e => nm_r (nI_1 a) (ih (a + 1) x (by omega) (by omega) ?_)) (fun e => nm_e (nm_r (nI_1 a) (ih (a + 1) _ (by omega) (by omega) ?_)))⟩
      · rcases hx with ⟨ex, hx⟩ | hx
        · refine Or.inl ⟨ex, fun b hb => ?_⟩
          by_cases eb : b = a
          · rw [eb]
            exact tj_c_inj e
          · exact hx b (by omega)
        · exact Or.inr hx
      · refine Or.inr ⟨?_, hd.mpr ⟨a, h64, fun z => e (by rw [← z])⟩⟩
        rcases hx with ⟨ex, -⟩ | ⟨ex, -⟩
        · rw [ex]
        · rw [ex, tj_oo]
theorem tj_yn29 {post : Int32 → SY → Prop} {v : Nat → Bool × Bool} (hk : ∀ a, a < 64 → kp a = tj_c (v a)) {d : Nat → Bool} (hd : ∀ k, k < 6 → (d k = true ↔ ∃ a, a < 64 ∧ ¬ v a = v (a ^^^ 2 ^ k)))
    (h : post (tj_set d 6) (tj_Y Q fs ss my kp)) : ∀ n k, k ≤ 6 → 6 < n + k → wY_needs_29 post (nI (tj_cc Q)) (tj_lo Q) (tj_aK Q) fs ss (tj_aI Q) (tj_aM Q) (tj_aP Q) (tj_aD Q) (tj_aG Q) my kp n (tj_set d k) (nI k) := by
  intro n
  induction n with
  | zero => intro k _ h; omega
  | succ n ih =>
    intro k h6 hn
    refine pk_le 6 k (fun hk6 => ?_) (fun hk6 => ?_)
    · have e : k = 6 := by omega
      rw [e]
      exact h
    · exact Exists.intro 65 (tj_yn39 hk hk6 (hd k hk6) (ih (k + 1) (by omega) (by omega)) 65 0 _ (by omega) (by omega) (Or.inl ⟨rfl, fun b hb => by omega⟩))
end
section
variable {Q : tj_C} {kn : Int32} {il fl : Int64} {mz mo : Nat → Int64}
theorem tj_xdif {z o : Int64} {v : Nat → Bool × Bool} (hv : tj_h z o v) {k : Nat} (h6 : k < 6) {d : Bool} (hd : d = true ↔ ∃ a, a < 64 ∧ ¬ v a = v (a ^^^ 2 ^ k)) :
    (((z ^^^ (z >>> (((1 : Int32) <<< (nI k &&& 31)).toInt64 &&& 63))) ||| (o ^^^ (o >>> (((1 : Int32) <<< (nI k &&& 31)).toInt64 &&& 63)))) &&& (tj_ones k ^^^ (-1))) = 0 ↔ (!d) = true := by
  rw [tj_sk k h6]
  have bit : ∀ a, a < 64 → a.testBit k = false → (tj_b (((z ^^^ (z >>> ((nI (2 ^ k)).toInt64 &&& 63))) ||| (o ^^^ (o >>> ((nI (2 ^ k)).toInt64 &&& 63)))) &&& (tj_ones k ^^^ (-1))) a = true ↔ ¬ v a = v (a ^^^ 2 ^ k)) := by
    intro a ha hb
    obtain ⟨e, hl⟩ := tj_pk1 k h6 a ha hb
    rw [tj_b_and, tj_b_not _ ha, tj_ones_b k h6 a ha, hb, tj_b_or, tj_b_xor, tj_b_xor, tj_b_shr _ hl, tj_b_shr _ hl, e, ← hv a ha, ← hv (a ^^^ 2 ^ k) (by omega)]
    cases tj_b z a <;> cases tj_b z (a ^^^ 2 ^ k) <;> cases tj_b o a <;> cases tj_b o (a ^^^ 2 ^ k) <;> decide
  constructor
  · intro h0
    cases hdv : d
    · rfl
    · exfalso
      obtain ⟨a, ha, hne⟩ := hd.mp hdv
      rw [h0] at bit
      cases hb : a.testBit k
      · have q := (bit a ha hb).mpr hne
        rw [tj_b_0] at q
        cases q
      · obtain ⟨hb', ee, hl⟩ := tj_pk2 k h6 a ha hb
        have q := (bit (a ^^^ 2 ^ k) hl hb').mpr (by rw [ee]; exact fun z => hne z.symm)
        rw [tj_b_0] at q
        cases q
  · intro hdv
    apply tj_b_ext
    intro a ha
    rw [tj_b_0]
    cases hb : a.testBit k
    · refine tj_nt (bit a ha hb) (fun hne => ?_)
      rw [hd.mpr ⟨a, ha, hne⟩] at hdv
      cases hdv
    · rw [tj_b_and, tj_b_not _ ha, tj_ones_b k h6 a ha, hb, Bool.not_true, Bool.and_false]
theorem tj_xn46 {post : Int32 → SX → Prop} {z o : Int64} {v : Nat → Bool × Bool} (hv : tj_h z o v) {d : Nat → Bool} (hd : ∀ k, k < 6 → (d k = true ↔ ∃ a, a < 64 ∧ ¬ v a = v (a ^^^ 2 ^ k)))
    (h : post (tj_set d 6) (tj_X Q kn il fl mz mo)) : ∀ n k, k ≤ 6 → 6 < n + k → wX_needs_46 post z o (nI (tj_cc Q)) kn il fl (tj_lo Q) (tj_aK Q) (tj_aF Q) (tj_aS Q) (tj_aI Q) (tj_aM Q) (tj_aP Q) (tj_aD Q) (tj_aG Q) mz mo n (tj_set d k) (nI k) := by
  intro n
  induction n with
  | zero => intro k _ h; omega
  | succ n ih =>
    intro k h6 hn
    refine pk_le 6 k (fun hk6 => ?_) (fun hk6 => ?_)
    · have e : k = 6 := by omega
      rw [e]
      exact h
    · have g : wX_needs_46 post z o (nI (tj_cc Q)) kn il fl (tj_lo Q) (tj_aK Q) (tj_aF Q) (tj_aS Q) (tj_aI Q) (tj_aM Q) (tj_aP Q) (tj_aD Q) (tj_aG Q) mz mo n (bif d k then tj_set d k ||| ((1 : Int32) <<< (nI k &&& 31)) else tj_set d k) (nI (k + 1)) := ih (k + 1) (by omega) (by omega)
      refine tj_xones _ hk6 (nm_e (nm_e (tj_brb (tj_xdif hv hk6 (hd k hk6)) (fun y => ?_) (fun y => ?_))))
      · have y' : d k = false := by cases hdk : d k; · rfl
                                    · rw [hdk] at y; cases y
        rw [y'] at g
        exact nm_r (nI_1 k) g
      · have y' : d k = true := by cases hdk : d k; · rw [hdk] at y; cases y
                                   · rfl
        rw [y'] at g
        exact nm_e (nm_r (nI_1 k) g)
/-- a node's two bits as told -/
def tj_told (v : Bool × Bool) : Int32 := bif v.1 then (bif v.2 then 0 else 1) else (bif v.2 then 2 else 3)
theorem tj_xv50 {post : Int32 → SX → Prop} {t i a : Nat} (hj : 20 * t + i < 80) (ha : a < 64) {z : Bool} (h : post (tj_told (z, tj_b (mo (20 * t + i)) a)) (tj_X Q kn il fl mz mo)) : wX_value_50 post (nI t) (nI i) (nI a) (tj_i z) (nI (tj_cc Q)) kn il fl (tj_lo Q) (tj_aK Q) (tj_aF Q) (tj_aS Q) (tj_aI Q) (tj_aM Q) (tj_aP Q) (tj_aD Q) (tj_aG Q) mz mo := by
  have i80 : vp_in (nI (20 * t + i)) 80 := vp_in_nI hj (by omega)
  have ej := nI_clamp (n := 20 * t + i) (by omega)
  unfold wX_value_50 wX_value_77
  rw [tj_ad, ej]
  refine ⟨i80, tj_brb (tj_b_eq1 _ ha) (fun o => ?_) (fun o => ?_)⟩
  · rw [o] at h
    exact tj_br0 (fun y => br_f (by decide) (by rw [y] at h; exact h)) (fun y => br_f (by decide) (by rw [y] at h; exact h))
  · rw [o] at h
    exact tj_br0 (fun y => br_t rfl (by rw [y] at h; exact h)) (fun y => br_t rfl (by rw [y] at h; exact h))
theorem tj_ytold {post : Int32 → Prop} {fs ss my kp : Nat → Int32} {v : Bool × Bool} (h : post (tj_told v)) : wpY_told post (tj_Y Q fs ss my kp) (tj_c v) := by
  unfold wpY_told tj_Y
  dsimp only
  obtain ⟨z, o⟩ := v
  cases z <;> cases o
  · exact br_f (by decide) (br_t rfl h)
  · exact br_f (by decide) (br_f (by decide) h)
  · exact br_f (by decide) (br_f (by decide) h)
  · exact br_t rfl h
theorem tj_xfst {post : Int32 → SX → Prop} : ∀ n i, i + n = 64 → post (tj_fst (tj_b fl) n i) (tj_X Q kn il fl mz mo) → wX_first_6 post (nI (tj_cc Q)) kn il fl (tj_lo Q) (tj_aK Q) (tj_aF Q) (tj_aS Q) (tj_aI Q) (tj_aM Q) (tj_aP Q) (tj_aD Q) (tj_aG Q) mz mo (n + 1) (nI i) := by
  intro n
  induction n with
  | zero =>
    intro i hi h
    exact pk_le 64 i (fun _ => h) (fun z => by omega)
  | succ n ih =>
    intro i hi h
    refine pk_le 64 i (fun h64 => by omega) (fun h64 => ?_)
    have g : post (bif tj_b fl i then nI i else tj_fst (tj_b fl) n (i + 1)) (tj_X Q kn il fl mz mo) := h
    refine tj_brb (tj_b_eq1 _ h64) (fun y => ?_) (fun y => ?_)
    · rw [y] at g
      exact g
    · rw [y] at g
      exact nm_r (nI_1 i) (ih (i + 1) (by omega) g)
end
end
section
/-! the relation, and the questions -/
/-- both states lie over one circuit; what the component knows is right -/
def i_Rel (_ : Nat) (u : SX) (v : SY) : Prop :=
  ∃ (Q : tj_C) (kn : Int32) (il fl : Int64) (mz mo : Nat → Int64) (fs ss my kp : Nat → Int32), u = tj_X Q kn il fl mz mo ∧ v = tj_Y Q fs ss my kp ∧ tj_W Q ∧ tj_lo Q = -1 ∧ tj_FS Q fs ss ∧ (kn = 0 ∨ (kn = 1 ∧ tj_Good Q il fl mz mo))
theorem i_up {k : Nat} {u : SX} {v : SY} (h : i_Rel k u v) : i_Rel (k + 6) u v := h
theorem tj_rel {k : Nat} {Q : tj_C} {kn : Int32} {il fl : Int64} {mz mo : Nat → Int64} {fs ss my kp : Nat → Int32} (hw : tj_W Q) (hl : tj_lo Q = -1) (hf : tj_FS Q fs ss) (hk : kn = 0 ∨ (kn = 1 ∧ tj_Good Q il fl mz mo)) : i_Rel k (tj_X Q kn il fl mz mo) (tj_Y Q fs ss my kp) :=
  ⟨Q, kn, il, fl, mz, mo, fs, ss, my, kp, rfl, rfl, hw, hl, hf, hk⟩
theorem i_vc0 : wpX_init (fun u => wpY_init (fun v => i_Rel 0 u v)) := by
  refine tj_rel (k := 0) (Q := (0, fun _ => 0, fun _ => 0, fun _ => 0, fun _ => 0, fun _ => 0, fun _ => 0, fun _ => 0, fun _ => 0, -1)) (kn := 0) (il := 0) (fl := 0) (mz := fun _ => 0) (mo := fun _ => 0) (fs := fun _ => 0) (ss := fun _ => 0) (my := fun _ => 0) (kp := fun _ => 0) ?_ rfl ?_ (Or.inl rfl)
  · refine ⟨⟨Nat.zero_le _, fun _ => Nat.zero_le _, fun _ => Nat.zero_lt_succ _, fun n hn => absurd hn (Nat.not_lt_zero n), fun n hn => absurd hn (Nat.not_lt_zero n), fun n hn => absurd hn (Nat.not_lt_zero n)⟩, fun j => ⟨Nat.zero_lt_succ _, Or.inr rfl, Nat.zero_lt_succ _, Nat.zero_lt_succ _⟩, Nat.zero_le _, Nat.zero_le _, fun _ => rfl⟩
  · exact ⟨fun n h => absurd h (Nat.not_succ_le_zero 0), fun n h => absurd h (Nat.not_succ_le_zero 1)⟩
theorem i_vc_nodes {k : Nat} {u : SX} {v : SY} (I : i_Rel k u v) (hk : k + 6 ≤ 3072) : wpX_nodes (fun r => wpY_nodes (fun r' => r' = r ∧ i_Rel (k + 6) u v) v) u := by
  have I' := I
  obtain ⟨Q, kn, il, fl, mz, mo, fs, ss, my, kp, rfl, rfl, -⟩ := I
  exact ⟨rfl, I'⟩
theorem i_vc_value {k : Nat} {u : SX} {v : SY} (I : i_Rel k u v) (hk : k + 6 ≤ 3072) (v1 : Int32) (v2 : Int32) (v3 : Int32) : wpX_value (fun r u' => wpY_value (fun r' v' => r' = r ∧ i_Rel (k + 6) u' v') v v1 v2 v3) u v1 v2 v3 := by
  obtain ⟨Q, kn, il, fl, mz, mo, fs, ss, my, kp, rfl, rfl, hw, hl, hf, hg⟩ := I
  have hc := hw.1.1
  unfold wpX_value tj_X
  dsimp only
  rcases tj_args Q hc v1 v2 with ⟨t, i, ht, hi, rfl, rfl⟩ | hb
  · refine tj_xbm0 hc ht hi (br_t rfl ?_)
    have Yb : ∀ (u' : SX) (_ : v3 < 0 ∨ ¬ v3 < 64), i_Rel (k + 6) u' (tj_Y Q fs ss my kp) → wpY_value (fun r' v' => r' = -1 ∧ i_Rel (k + 6) u' v') (tj_Y Q fs ss my kp) (nI t) (nI i) v3 := by
      intro u' hb hr
      unfold wpY_value tj_Y
      dsimp only
      refine tj_ygood hc ht hi (br_c (fun _ => ⟨rfl, hr⟩) (fun h0 => br_f (fun z => ?_) ⟨rfl, hr⟩))
      rcases hb with hb | hb
      · exact h0 hb
      · apply hb
        have e : (64 : Int32).toInt = 64 := by decide
        have e' : (63 : Int32).toInt = 63 := by decide
        rw [Int32.le_iff_toInt_le, e'] at z
        rw [Int32.lt_iff_toInt_lt, e]
        omega
    refine br_c (fun h0 => Yb _ (Or.inl h0) (tj_rel hw hl hf hg)) (fun h0 => br_c (fun h1 => ?_) (fun h1 => Yb _ (Or.inr h1) (tj_rel hw hl hf hg)))
    obtain ⟨a, ha, rfl⟩ := nI_of h0
    have ha : a < 64 := (nI_ltI (b := 64) ha (by omega)).mp h1
    refine tj_xfind hw hg (fun il fl mz mo hg => ?_)
    unfold tj_X
    dsimp only
    have i80 : vp_in (nI (20 * t + i)) 80 := vp_in_nI (by omega) (by omega)
    have ej := nI_clamp (n := 20 * t + i) (by omega)
    have qx : (tj_b (mz (20 * t + i)) a, tj_b (mo (20 * t + i)) a) = tj_V Q a t i := hg.1 t i hi (Or.inl ht) a ha
    have Yg : ∀ r : Int32, tj_told (tj_V Q a t i) = r → wpY_value (fun r' v' => r' = r ∧ i_Rel (k + 6) (tj_X Q 1 il fl mz mo) v') (tj_Y Q fs ss my kp) (nI t) (nI i) (nI a) := by
      intro r hr
      unfold wpY_value tj_Y
      dsimp only
      refine tj_ygood hc ht hi (br_f h0 (br_t (nI_le (b := 63) (by omega) (by omega)) ?_))
      refine tj_yfol hw hf ha (fun my hd => ?_)
      have q : my (20 * t + i) = tj_c (tj_V Q a t i) := hd t i hi (Or.inl ht)
      unfold tj_Y
      dsimp only
      rw [tj_ad, ej, q]
      exact ⟨i80, tj_ytold (fs := fs) (ss := ss) (my := my) (kp := kp) ⟨hr, tj_rel hw hl hf (Or.inr ⟨rfl, hg⟩)⟩⟩
    rw [tj_ad, ej]
    refine ⟨i80, tj_brb (tj_b_eq1 _ ha) (fun z => ?_) (fun z => ?_)⟩
    · refine tj_xv50 (z := true) (by omega) ha (Yg _ ?_)
      rw [← qx, z]
    · refine tj_xv50 (z := false) (by omega) ha (Yg _ ?_)
      rw [← qx, z]
  · refine tj_xbm1 hc hb (br_f (by decide) ?_)
    show wpY_value _ (tj_Y Q fs ss my kp) v1 v2 v3
    unfold wpY_value tj_Y
    dsimp only
    exact tj_ybad hc hb ⟨rfl, tj_rel hw hl hf hg⟩
theorem i_vc_definite {k : Nat} {u : SX} {v : SY} (I : i_Rel k u v) (hk : k + 6 ≤ 3072) (v1 : Int32) (v2 : Int32) : wpX_definite (fun r u' => wpY_definite (fun r' v' => r' = r ∧ i_Rel (k + 6) u' v') v v1 v2) u v1 v2 := by
  obtain ⟨Q, kn, il, fl, mz, mo, fs, ss, my, kp, rfl, rfl, hw, hl, hf, hg⟩ := I
  have hc := hw.1.1
  unfold wpX_definite tj_X
  dsimp only
  rcases tj_args Q hc v1 v2 with ⟨t, i, ht, hi, rfl, rfl⟩ | hb
  · refine tj_xbm0 hc ht hi (br_t rfl ?_)
    refine tj_xfind hw hg (fun il fl mz mo hg => ?_)
    unfold tj_X
    dsimp only
    have i80 : vp_in (nI (20 * t + i)) 80 := vp_in_nI (by omega) (by omega)
    have ej := nI_clamp (n := 20 * t + i) (by omega)
    rw [tj_ad, ej]
    refine ⟨i80, i80, tj_xsz (Q := Q) (kn := 1) (il := il) (fl := fl) (mz := mz) (mo := mo) ?_⟩
    show wpY_definite _ (tj_Y Q fs ss my kp) (nI t) (nI i)
    unfold wpY_definite tj_Y
    dsimp only
    refine tj_ygood hc ht hi (tj_ykeep hw hf ht hi (fun my kp hkp => ?_))
    refine Exists.intro 65 (tj_ydef hkp (p := tj_b (mz (20 * t + i) ^^^ mo (20 * t + i))) (fun a ha => ?_) ⟨rfl, tj_rel hw hl hf (Or.inr ⟨rfl, hg⟩)⟩ 65 0 (by omega) (by omega))
    have qx : (tj_b (mz (20 * t + i)) a, tj_b (mo (20 * t + i)) a) = tj_V Q a t i := hg.1 t i hi (Or.inl ht) a ha
    rw [← qx, tj_b_xor]
  · refine tj_xbm1 hc hb (br_f (by decide) ?_)
    show wpY_definite _ (tj_Y Q fs ss my kp) v1 v2
    unfold wpY_definite tj_Y
    dsimp only
    exact tj_ybad hc hb ⟨rfl, tj_rel hw hl hf hg⟩
theorem i_vc_needs {k : Nat} {u : SX} {v : SY} (I : i_Rel k u v) (hk : k + 6 ≤ 3072) (v1 : Int32) (v2 : Int32) : wpX_needs (fun r u' => wpY_needs (fun r' v' => r' = r ∧ i_Rel (k + 6) u' v') v v1 v2) u v1 v2 := by
  obtain ⟨Q, kn, il, fl, mz, mo, fs, ss, my, kp, rfl, rfl, hw, hl, hf, hg⟩ := I
  have hc := hw.1.1
  unfold wpX_needs tj_X
  dsimp only
  rcases tj_args Q hc v1 v2 with ⟨t, i, ht, hi, rfl, rfl⟩ | hb
  · refine tj_xbm0 hc ht hi (br_t rfl ?_)
    refine tj_xfind hw hg (fun il fl mz mo hg => ?_)
    unfold tj_X
    dsimp only
    have i80 : vp_in (nI (20 * t + i)) 80 := vp_in_nI (by omega) (by omega)
    have ej := nI_clamp (n := 20 * t + i) (by omega)
    obtain ⟨d, hd⟩ : ∃ d : Nat → Bool, ∀ k, (d k = true ↔ ∃ a, a < 64 ∧ ¬ tj_V Q a t i = tj_V Q (a ^^^ 2 ^ k) t i) :=
      ⟨fun k => (tj_dec (∃ a, a < 64 ∧ ¬ tj_V Q a t i = tj_V Q (a ^^^ 2 ^ k) t i)).choose, fun k => (tj_dec (∃ a, a < 64 ∧ ¬ tj_V Q a t i = tj_V Q (a ^^^ 2 ^ k) t i)).choose_spec⟩
    rw [tj_ad, ej]
    refine ⟨i80, nm_e ⟨i80, nm_e ⟨7, tj_xn46 (v := fun a => tj_V Q a t i) (hg.1 t i hi (Or.inl ht)) (fun k _ => hd k) ?_ 7 0 (by omega) (by omega)⟩⟩⟩
    show wpY_needs _ (tj_Y Q fs ss my kp) (nI t) (nI i)
    unfold wpY_needs tj_Y
    dsimp only
    refine tj_ygood hc ht hi (tj_ykeep hw hf ht hi (fun my kp hkp => ?_))
    exact Exists.intro 7 (tj_yn29 (v := fun a => tj_V Q a t i) hkp (fun k _ => hd k) ⟨rfl, tj_rel hw hl hf (Or.inr ⟨rfl, hg⟩)⟩ 7 0 (by omega) (by omega))
  · refine tj_xbm1 hc hb (br_f (by decide) ?_)
    show wpY_needs _ (tj_Y Q fs ss my kp) v1 v2
    unfold wpY_needs tj_Y
    dsimp only
    exact tj_ybad hc hb ⟨rfl, tj_rel hw hl hf hg⟩
theorem i_vc_fails {k : Nat} {u : SX} {v : SY} (I : i_Rel k u v) (hk : k + 6 ≤ 3072) : wpX_fails (fun r u' => wpY_fails (fun r' v' => r' = r ∧ i_Rel (k + 6) u' v') v) u := by
  obtain ⟨Q, kn, il, fl, mz, mo, fs, ss, my, kp, rfl, rfl, hw, hl, hf, hg⟩ := I
  unfold wpX_fails tj_X
  dsimp only
  refine tj_xfind hw hg (fun il fl mz mo hg => ?_)
  unfold tj_X
  dsimp only
  refine tj_xsz (Q := Q) (kn := 1) (il := il) (fl := fl) (mz := mz) (mo := mo) ?_
  show wpY_fails _ (tj_Y Q fs ss my kp)
  unfold wpY_fails tj_Y
  dsimp only
  exact tj_ycf hw hf hg.2.2 (fun my => ⟨rfl, tj_rel hw hl hf (Or.inr ⟨rfl, hg⟩)⟩)
theorem i_vc_idle {k : Nat} {u : SX} {v : SY} (I : i_Rel k u v) (hk : k + 6 ≤ 3072) : wpX_idle (fun r u' => wpY_idle (fun r' v' => r' = r ∧ i_Rel (k + 6) u' v') v) u := by
  obtain ⟨Q, kn, il, fl, mz, mo, fs, ss, my, kp, rfl, rfl, hw, hl, hf, hg⟩ := I
  unfold wpX_idle tj_X
  dsimp only
  refine tj_xfind hw hg (fun il fl mz mo hg => ?_)
  unfold tj_X
  dsimp only
  refine tj_xsz (Q := Q) (kn := 1) (il := il) (fl := fl) (mz := mz) (mo := mo) ?_
  exact tj_yidle hw hf hg.2.1 (fun my => ⟨rfl, tj_rel hw hl hf (Or.inr ⟨rfl, hg⟩)⟩)
theorem i_vc_first {k : Nat} {u : SX} {v : SY} (I : i_Rel k u v) (hk : k + 6 ≤ 3072) : wpX_first (fun r u' => wpY_first (fun r' v' => r' = r ∧ i_Rel (k + 6) u' v') v) u := by
  obtain ⟨Q, kn, il, fl, mz, mo, fs, ss, my, kp, rfl, rfl, hw, hl, hf, hg⟩ := I
  unfold wpX_first tj_X
  dsimp only
  refine tj_xfind hw hg (fun il fl mz mo hg => ?_)
  unfold tj_X
  dsimp only
  refine ⟨65, tj_xfst 64 0 (by omega) ?_⟩
  exact tj_yfst hw hf hg.2.2 (fun my => ⟨rfl, tj_rel hw hl hf (Or.inr ⟨rfl, hg⟩)⟩)
theorem i_vc_failsOf {k : Nat} {u : SX} {v : SY} (I : i_Rel k u v) (hk : k + 6 ≤ 3072) (v1 : Int32) : wpX_failsOf (fun r u' => wpY_failsOf (fun r' v' => r' = r ∧ i_Rel (k + 6) u' v') v v1) u v1 := by
  obtain ⟨Q, kn, il, fl, mz, mo, fs, ss, my, kp, rfl, rfl, hw, hl, hf, hg⟩ := I
  have h12 := hw.2.2.2.1
  unfold wpX_failsOf tj_X wpY_failsOf tj_Y
  dsimp only
  refine br_c (fun h0 => br_t h0 ⟨rfl, tj_rel hw hl hf hg⟩) (fun h0 => br_c (fun h1 => ?_) (fun h1 => br_f h0 (br_f h1 ⟨rfl, tj_rel hw hl hf hg⟩)))
  obtain ⟨j, hj, rfl⟩ := nI_of h0
  have hj : j < tj_I Q 1 := (nI_ltI hj (by omega)).mp h1
  refine tj_xfind hw hg (fun il fl mz mo hg => ?_)
  unfold tj_X
  dsimp only
  refine tj_xag (kn := 1) (fl := fl) hw hj hg.1 (fun r hr => ?_)
  refine tj_xsz (Q := Q) (kn := 1) (il := il) (fl := fl) (mz := mz) (mo := mo) ?_
  refine br_f h0 (br_t h1 ⟨65, tj_yfo_l hw hf hj (p := tj_b r) (fun a ha => ?_) (fun my => ⟨rfl, tj_rel hw hl hf (Or.inr ⟨rfl, hg⟩)⟩) 65 0 my (by omega) (by omega)⟩)
  rw [hr a ha, ← hg.2.1 a ha]
  cases tj_b il a <;> cases tj_brk Q a j <;> simp
/-- the circuit with another item left out -/
def tj_out (Q : tj_C) (lo : Int32) : tj_C := (tj_cc Q, tj_K Q, tj_F Q, tj_S Q, tj_I Q, tj_M Q, tj_P Q, tj_D Q, tj_G Q, lo)
theorem i_vc_without {k : Nat} {u : SX} {v : SY} (I : i_Rel k u v) (hk : k + 6 ≤ 3072) (v1 : Int32) : wpX_without (fun r u' => wpY_without (fun r' v' => r' = r ∧ i_Rel (k + 6) u' v') v v1) u v1 := by
  obtain ⟨Q, kn, il, fl, mz, mo, fs, ss, my, kp, rfl, rfl, hw, hl, hf, hg⟩ := I
  unfold wpX_without tj_X wpY_without tj_Y
  dsimp only
  refine br_c (fun h0 => br_t h0 ⟨rfl, tj_rel hw hl hf hg⟩) (fun h0 => br_c (fun h1 => ?_) (fun h1 => br_f h0 (br_f h1 ⟨rfl, tj_rel hw hl hf hg⟩)))
  refine tj_xfind hw hg (fun il fl mz mo hg => ?_)
  unfold tj_X
  dsimp only
  refine tj_xsz (Q := Q) (kn := 1) (il := il) (fl := fl) (mz := mz) (mo := mo) ?_
  have hw' : tj_W (tj_out Q v1) := hw
  have hf' : tj_FS (tj_out Q v1) fs ss := hf
  refine tj_xfa (Q := tj_out Q v1) (kn := 1) (il := il) (fl := fl) (mz := mz) (mo := mo) hw' (fun il' fl' mz' mo' hg' => ?_)
  unfold tj_X
  dsimp only
  refine tj_xsz (Q := tj_out Q v1) (kn := 1) (il := il') (fl := fl') (mz := mz') (mo := mo') ?_
  refine br_f h0 (br_t h1 ?_)
  refine tj_ycf (Q := Q) hw hf hg.2.2 (fun my => ?_)
  unfold tj_Y
  dsimp only
  refine tj_ycf (Q := tj_out Q v1) (fs := fs) (ss := ss) (my := my) (kp := kp) hw' hf' hg'.2.2 (fun my => ?_)
  unfold tj_Y
  dsimp only
  refine ⟨rfl, ?_⟩
  exact tj_rel (Q := tj_out Q (-1)) (kn := 0) (il := il') (fl := fl') (mz := mz') (mo := mo') (fs := fs) (ss := ss) (my := my) (kp := kp) hw rfl hf (Or.inl rfl)
end
section
/-! the changes: node, connect, item, drop -/
def tj_u (f : Nat → Nat) (k x : Nat) : Nat → Nat := fun j => if j = k then x else f j
theorem tj_us (f : Nat → Nat) (k x : Nat) : tj_u f k x k = x := if_pos rfl
theorem tj_un (f : Nat → Nat) {k x j : Nat} (h : j ≠ k) : tj_u f k x j = f j := if_neg h
theorem tj_uI (f : Nat → Nat) (k x : Nat) : upd (fun j => nI (f j)) k (nI x) = fun j => nI (tj_u f k x j) := by
  funext j
  by_cases h : j = k
  · rw [h, pk_us, tj_us]
  · rw [pk_un h, tj_un f h]
theorem tj_i8 : ∀ m, m < 128 → (nI m).toInt8.toInt32 = nI m := by decide +kernel
theorem tj_nar1 {m : Nat} (h : m < 128) : vp_nar .byte (nI m) = nI m := by rw [vp_nar_byte, tj_i8 m h]
theorem tj_nar {m : Nat} (h : m < 128) : vp_nar .byte (nI m).toInt8.toInt32 = nI m := by rw [tj_i8 m h, tj_nar1 h]
def tj_one (kd : Nat) : Bool := decide (1 ≤ kd ∧ kd ≤ 4)
def tj_two (kd : Nat) : Bool := decide (2 ≤ kd ∧ kd ≤ 4)
theorem tj_one_t {kd : Nat} : tj_one kd = true ↔ 1 ≤ kd ∧ kd ≤ 4 := decide_eq_true_iff
theorem tj_two_t {kd : Nat} : tj_two kd = true ↔ 2 ≤ kd ∧ kd ≤ 4 := decide_eq_true_iff
theorem tj_one_f {kd : Nat} (h : tj_one kd = false) : ¬ (1 ≤ kd ∧ kd ≤ 4) := fun z => by rw [tj_one_t.mpr z] at h; cases h
theorem tj_two_f {kd : Nat} (h : tj_two kd = false) : ¬ (2 ≤ kd ∧ kd ≤ 4) := fun z => by rw [tj_two_t.mpr z] at h; cases h
/-- the circuit with one node more -/
def tj_nd (Q : tj_C) (kd f s : Nat) : tj_C := (tj_cc Q + 1, tj_u (tj_K Q) (tj_cc Q) kd, tj_u (tj_F Q) (tj_cc Q) f, tj_u (tj_S Q) (tj_cc Q) s, tj_I Q, tj_M Q, tj_P Q, tj_D Q, tj_G Q, tj_lo Q)
section
variable {Q : tj_C} {kn : Int32} {il fl : Int64} {mz mo : Nat → Int64}
theorem tj_x124 {post : Int32 → SX → Prop} (hc : tj_cc Q < 20) {kd f s : Nat} {x3 : Int32} (hf : f < 20) (hs : s < 20) (h2 : tj_two kd = true → x3 = nI s) (h2' : tj_two kd = false → s = 0)
    (h : post (nI (tj_cc Q)) (tj_X (tj_nd Q kd f s) 0 il fl mz mo)) : wX_node_124 post x3 (tj_i (tj_two kd)) (nI f) (nI (tj_cc Q)) (nI (tj_cc Q)) kn il fl (tj_lo Q) (upd (tj_aK Q) (tj_cc Q) (nI kd)) (tj_aF Q) (tj_aS Q) (tj_aI Q) (tj_aM Q) (tj_aP Q) (tj_aD Q) (tj_aG Q) mz mo := by
  have i20 : vp_in (nI (tj_cc Q)) 20 := vp_in_nI hc (by omega)
  have ec := nI_clamp (n := tj_cc Q) (by omega)
  have eK : upd (tj_aK Q) (tj_cc Q) (nI kd) = tj_aK (tj_nd Q kd f s) := tj_uI _ _ _
  have eF : upd (tj_aF Q) (tj_cc Q) (nI f) = tj_aF (tj_nd Q kd f s) := tj_uI _ _ _
  have eS : upd (tj_aS Q) (tj_cc Q) (nI s) = tj_aS (tj_nd Q kd f s) := tj_uI _ _ _
  unfold wX_node_124 wX_node_144
  rw [eK, ec]
  refine ⟨i20, nm_r (e' := tj_aF (tj_nd Q kd f s)) (by rw [tj_nar (by omega), eF]) (tj_br0 (fun z => ⟨i20, nm_r (e' := tj_aS (tj_nd Q kd f s)) ?_ (nm_r (nI_1 (tj_cc Q)) ?_)⟩) (fun z => ⟨i20, nm_r (e' := tj_aS (tj_nd Q kd f s)) ?_ (nm_r (nI_1 (tj_cc Q)) ?_)⟩))⟩
  · rw [← eS, h2' z]
    exact congrArg (upd (tj_aS Q) (tj_cc Q)) (tj_nar (m := 0) (by omega))
  · rw [nI_pred]
    exact h
  · rw [← eS, h2 z, tj_nar (by omega)]
  · rw [nI_pred]
    exact h
theorem tj_x71 {post : Int32 → SX → Prop} (hc : tj_cc Q < 20) {kd f s : Nat} {x2 x3 : Int32} (h6 : kd < 6) (hf : f < 20) (hs : s < 20) (h1 : tj_one kd = true → x2 = nI f) (h5 : kd = 5 → f = tj_cc Q) (h0 : kd = 0 → f = 0) (h2 : tj_two kd = true → x3 = nI s) (h2' : tj_two kd = false → s = 0)
    (h : post (nI (tj_cc Q)) (tj_X (tj_nd Q kd f s) 0 il fl mz mo)) : wX_node_71 post (nI kd) x2 x3 (tj_i (tj_one kd)) (tj_i (tj_two kd)) (nI (tj_cc Q)) kn il fl (tj_lo Q) (tj_aK Q) (tj_aF Q) (tj_aS Q) (tj_aI Q) (tj_aM Q) (tj_aP Q) (tj_aD Q) (tj_aG Q) mz mo := by
  have i20 : vp_in (nI (tj_cc Q)) 20 := vp_in_nI hc (by omega)
  have ec := nI_clamp (n := tj_cc Q) (by omega)
  have g := tj_x124 (kn := kn) hc hf hs h2 h2' h
  unfold wX_node_71
  refine pk_eq (tj_cc Q) 20 (fun z => by omega) (fun _ => ⟨i20, nm_r (e' := upd (tj_aK Q) (tj_cc Q) (nI kd)) (by rw [tj_nar (by omega), ec]) (tj_br0 (fun z => pk_eq kd 5 (fun e => ?_) (fun e => ?_)) (fun z => ?_))⟩)
  · rw [h5 e] at g
    exact g
  · have := tj_one_f z
    rw [h0 (by omega)] at g
    exact g
  · rw [h1 z]
    exact g
theorem tj_xnode {post : Int32 → SX → Prop} {kd : Nat} {x2 x3 : Int32} (h6 : kd < 6) (h : wX_node_32 post (nI kd) x2 x3 (tj_i (tj_one kd)) (tj_i (tj_two kd)) (nI (tj_cc Q)) kn il fl (tj_lo Q) (tj_aK Q) (tj_aF Q) (tj_aS Q) (tj_aI Q) (tj_aM Q) (tj_aP Q) (tj_aD Q) (tj_aG Q) mz mo) : wpX_node post (tj_X Q kn il fl mz mo) (nI kd) x2 x3 := by
  unfold wpX_node tj_X
  dsimp only
  unfold wX_node_14 wX_node_15 wX_node_31
  match kd, h6, h with
  | 0, _, h => exact br_t (by decide) (br_t (by decide) h)
  | 1, _, h => exact br_f (by decide) (br_f (by decide) (br_t (by decide) h))
  | 2, _, h => exact br_f (by decide) (br_f (by decide) (br_f (by decide) (br_f (by decide) h)))
  | 3, _, h => exact br_f (by decide) (br_f (by decide) (br_f (by decide) (br_f (by decide) h)))
  | 4, _, h => exact br_f (by decide) (br_f (by decide) (br_f (by decide) (br_f (by decide) h)))
  | 5, _, h => exact br_f (by decide) (br_t (by decide) (br_f (by decide) (br_t (by decide) h)))
  | k + 6, hk, _ => omega
/-- the arguments are nodes where the kind asks for them -/
theorem tj_xnode_y {post : Int32 → SX → Prop} (hc : tj_cc Q ≤ 20) {kd : Nat} {x2 x3 : Int32} (h6 : kd < 6) (h1 : tj_one kd = true → ∃ i, i < tj_cc Q ∧ x2 = nI i) (h2 : tj_two kd = true → ∃ i, i < tj_cc Q ∧ x3 = nI i)
    (h : wX_node_71 post (nI kd) x2 x3 (tj_i (tj_one kd)) (tj_i (tj_two kd)) (nI (tj_cc Q)) kn il fl (tj_lo Q) (tj_aK Q) (tj_aF Q) (tj_aS Q) (tj_aI Q) (tj_aM Q) (tj_aP Q) (tj_aD Q) (tj_aG Q) mz mo) : wpX_node post (tj_X Q kn il fl mz mo) (nI kd) x2 x3 := by
  have h56 : wX_node_56 post (nI kd) x2 x3 (tj_i (tj_one kd)) (tj_i (tj_two kd)) (nI (tj_cc Q)) kn il fl (tj_lo Q) (tj_aK Q) (tj_aF Q) (tj_aS Q) (tj_aI Q) (tj_aM Q) (tj_aP Q) (tj_aD Q) (tj_aG Q) mz mo := by
    unfold wX_node_56
    refine tj_br0 (fun _ => h) (fun z => ?_)
    obtain ⟨j, hj, rfl⟩ := h2 z
    exact tj_xnn0 hc hj (br_t rfl h)
  refine tj_xnode h6 ?_
  unfold wX_node_32
  refine br_f (nI_pos (by omega)) (br_f (nI_nlt (a := 5) (b := kd) (by omega) (by omega)) (tj_br0 (fun _ => h56) (fun z => ?_)))
  obtain ⟨i, hi, rfl⟩ := h1 z
  exact tj_xnn0 hc hi (br_t rfl h56)
theorem tj_xnode_n {post : Int32 → SX → Prop} (hc : tj_cc Q ≤ 20) {kd : Nat} {x2 x3 : Int32} (h6 : kd < 6) (hb : (tj_one kd = true ∧ (x2 < 0 ∨ nI (tj_cc Q) ≤ x2)) ∨ (tj_two kd = true ∧ (∃ i, i < tj_cc Q ∧ x2 = nI i) ∧ (x3 < 0 ∨ nI (tj_cc Q) ≤ x3)))
    (h : post (-1) (tj_X Q kn il fl mz mo)) : wpX_node post (tj_X Q kn il fl mz mo) (nI kd) x2 x3 := by
  refine tj_xnode h6 ?_
  unfold wX_node_32
  refine br_f (nI_pos (by omega)) (br_f (nI_nlt (a := 5) (b := kd) (by omega) (by omega)) ?_)
  rcases hb with ⟨h1, hb⟩ | ⟨h2, ⟨i, hi, rfl⟩, hb⟩
  · rw [h1]
    exact br_f (by decide) (tj_xnn1 hc hb (br_f (by decide) h))
  · have q := tj_two_t.mp h2
    rw [tj_one_t.mpr (show 1 ≤ kd ∧ kd ≤ 4 by omega), h2]
    unfold wX_node_56
    exact br_f (by decide) (tj_xnn0 hc hi (br_t rfl (br_f (by decide) (tj_xnn1 hc hb (br_f (by decide) h)))))
end
section
variable {Q : tj_C} {fs ss my kp : Nat → Int32}
theorem tj_y46 {post : Int32 → SY → Prop} (hc : tj_cc Q < 20) {kd f s : Nat} {x2 x3 : Int32} (h6 : kd < 6)
    (h : ∀ z, (kd = 5 → z = nI (tj_cc Q)) → (¬ kd = 5 → z = x2) → post (nI (tj_cc Q)) (tj_Y (tj_nd Q kd f s) (upd fs (tj_cc Q) z) (upd ss (tj_cc Q) x3) my kp)) : wY_node_46 post (nI kd) x2 x3 (nI (tj_cc Q)) (tj_lo Q) (tj_aK Q) fs ss (tj_aI Q) (tj_aM Q) (tj_aP Q) (tj_aD Q) (tj_aG Q) my kp := by
  have i20 : vp_in (nI (tj_cc Q)) 20 := vp_in_nI hc (by omega)
  have ec := nI_clamp (n := tj_cc Q) (by omega)
  have eK : upd (tj_aK Q) (tj_cc Q) (nI kd) = tj_aK (tj_nd Q kd f s) := tj_uI _ _ _
  unfold wY_node_46 wY_node_89
  rw [ec, eK]
  refine pk_eq (tj_cc Q) 20 (fun z => by omega) (fun _ => ⟨i20, nm_e (pk_eq kd 5 (fun e => ⟨i20, nm_e ⟨i20, nm_e (nm_r (nI_1 (tj_cc Q)) ?_)⟩⟩) (fun e => ⟨i20, nm_e ⟨i20, nm_e (nm_r (nI_1 (tj_cc Q)) ?_)⟩⟩))⟩)
  · rw [nI_pred]
    exact h _ (fun _ => rfl) (fun z => absurd e z)
  · rw [nI_pred]
    exact h _ (fun z => absurd z e) (fun _ => rfl)
theorem tj_ynode_y {post : Int32 → SY → Prop} (hc : tj_cc Q ≤ 20) {kd : Nat} {x2 x3 : Int32} (h6 : kd < 6) (h1 : tj_one kd = true → ∃ i, i < tj_cc Q ∧ x2 = nI i) (h2 : tj_two kd = true → ∃ i, i < tj_cc Q ∧ x3 = nI i)
    (h : wY_node_46 post (nI kd) x2 x3 (nI (tj_cc Q)) (tj_lo Q) (tj_aK Q) fs ss (tj_aI Q) (tj_aM Q) (tj_aP Q) (tj_aD Q) (tj_aG Q) my kp) : wpY_node post (tj_Y Q fs ss my kp) (nI kd) x2 x3 := by
  have h26 : wY_node_26 post (nI kd) x2 x3 (nI (tj_cc Q)) (tj_lo Q) (tj_aK Q) fs ss (tj_aI Q) (tj_aM Q) (tj_aP Q) (tj_aD Q) (tj_aG Q) my kp := by
    unfold wY_node_26
    refine pk_le kd 1 (fun _ => h) (fun q1 => pk_le 5 kd (fun _ => h) (fun q2 => ?_))
    obtain ⟨j, hj, rfl⟩ := h2 (tj_two_t.mpr (by omega))
    exact tj_ynn0 hc hj (br_t rfl h)
  unfold wpY_node tj_Y
  dsimp only
  refine br_f (nI_pos (by omega)) (br_f (nI_nlt (a := 5) (b := kd) (by omega) (by omega)) (pk_le kd 0 (fun _ => h26) (fun q1 => pk_le 5 kd (fun _ => h26) (fun q2 => ?_))))
  obtain ⟨i, hi, rfl⟩ := h1 (tj_one_t.mpr (by omega))
  exact tj_ynn0 hc hi (br_t rfl h26)
theorem tj_ynode_n {post : Int32 → SY → Prop} (hc : tj_cc Q ≤ 20) {kd : Nat} {x2 x3 : Int32} (h6 : kd < 6) (hb : (tj_one kd = true ∧ (x2 < 0 ∨ nI (tj_cc Q) ≤ x2)) ∨ (tj_two kd = true ∧ (∃ i, i < tj_cc Q ∧ x2 = nI i) ∧ (x3 < 0 ∨ nI (tj_cc Q) ≤ x3)))
    (h : post (-1) (tj_Y Q fs ss my kp)) : wpY_node post (tj_Y Q fs ss my kp) (nI kd) x2 x3 := by
  unfold wpY_node tj_Y
  dsimp only
  refine br_f (nI_pos (by omega)) (br_f (nI_nlt (a := 5) (b := kd) (by omega) (by omega)) ?_)
  rcases hb with ⟨h1, hb⟩ | ⟨h2, ⟨i, hi, rfl⟩, hb⟩
  · have q := tj_one_t.mp h1
    exact pk_le kd 0 (fun z => by omega) (fun _ => pk_le 5 kd (fun z => by omega) (fun _ => tj_ynn1 hc hb (br_f (by decide) h)))
  · have q := tj_two_t.mp h2
    refine pk_le kd 0 (fun z => by omega) (fun _ => pk_le 5 kd (fun z => by omega) (fun _ => tj_ynn0 hc hi (br_t rfl ?_)))
    unfold wY_node_26
    exact pk_le kd 1 (fun z => by omega) (fun _ => pk_le 5 kd (fun z => by omega) (fun _ => tj_ynn1 hc hb (br_f (by decide) h)))
end
/-- a new node keeps the circuit well formed -/
theorem tj_nd_W {Q : tj_C} (hw : tj_W Q) (hc : tj_cc Q < 20) {kd f s : Nat} (h6 : kd < 6) (hf : f < 20) (h1 : 1 ≤ kd → kd ≤ 4 → f < tj_cc Q) (h5 : kd = 5 → f = tj_cc Q) (h2 : 2 ≤ kd → kd ≤ 4 → s < tj_cc Q) : tj_W (tj_nd Q kd f s) := by
  obtain ⟨⟨-, hK, hF, hF1, hF5, hS⟩, hT, hI0, hI1, hI⟩ := hw
  refine ⟨⟨hc, fun n => ?_, fun n => ?_, fun n hn k1 k4 => ?_, fun n hn k5 => ?_, fun n hn k2 k4 => ?_⟩, fun j => ?_, hI0, hI1, fun z => absurd z (Nat.succ_ne_zero _)⟩
  · show tj_u (tj_K Q) (tj_cc Q) kd n ≤ 5
    by_cases e : n = tj_cc Q
    · rw [e, tj_us]; omega
    · rw [tj_un _ e]; exact hK n
  · show tj_u (tj_F Q) (tj_cc Q) f n < 20
    by_cases e : n = tj_cc Q
    · rw [e, tj_us]; omega
    · rw [tj_un _ e]; exact hF n
  · show tj_u (tj_F Q) (tj_cc Q) f n < n
    have hn' : n < tj_cc Q + 1 := hn
    have k1' : 1 ≤ tj_u (tj_K Q) (tj_cc Q) kd n := k1
    have k4' : tj_u (tj_K Q) (tj_cc Q) kd n ≤ 4 := k4
    by_cases e : n = tj_cc Q
    · rw [e, tj_us] at k1' k4' ⊢; exact h1 k1' k4'
    · rw [tj_un _ e] at k1' k4' ⊢; exact hF1 n (by omega) k1' k4'
  · show tj_u (tj_F Q) (tj_cc Q) f n < tj_cc Q + 1
    have hn' : n < tj_cc Q + 1 := hn
    have k5' : tj_u (tj_K Q) (tj_cc Q) kd n = 5 := k5
    by_cases e : n = tj_cc Q
    · rw [e, tj_us] at k5' ⊢; have := h5 k5'; omega
    · rw [tj_un _ e] at k5' ⊢; have := hF5 n (by omega) k5'; omega
  · show tj_u (tj_S Q) (tj_cc Q) s n < n
    have hn' : n < tj_cc Q + 1 := hn
    have k2' : 2 ≤ tj_u (tj_K Q) (tj_cc Q) kd n := k2
    have k4' : tj_u (tj_K Q) (tj_cc Q) kd n ≤ 4 := k4
    by_cases e : n = tj_cc Q
    · rw [e, tj_us] at k2' k4' ⊢; exact h2 k2' k4'
    · rw [tj_un _ e] at k2' k4' ⊢; exact hS n (by omega) k2' k4'
  · have t := hT j
    refine ⟨t.1, ?_, t.2.2.1, t.2.2.2⟩
    rcases t.2.1 with p | p
    · exact Or.inl (Nat.lt_succ_of_lt p)
    · exact Or.inr p
theorem tj_nd_F {Q : tj_C} {fs ss : Nat → Int32} (hf : tj_FS Q fs ss) {kd f s : Nat} {x y : Int32} (h1 : 1 ≤ kd → x = nI f) (h2 : 2 ≤ kd → kd ≤ 4 → y = nI s) : tj_FS (tj_nd Q kd f s) (upd fs (tj_cc Q) x) (upd ss (tj_cc Q) y) := by
  refine ⟨fun n k1 => ?_, fun n k2 k4 => ?_⟩
  · show upd fs (tj_cc Q) x n = nI (tj_u (tj_F Q) (tj_cc Q) f n)
    have k1' : 1 ≤ tj_u (tj_K Q) (tj_cc Q) kd n := k1
    by_cases e : n = tj_cc Q
    · rw [e, tj_us] at k1'
      rw [e, tj_us, pk_us]
      exact h1 k1'
    · rw [tj_un _ e] at k1' ⊢
      rw [pk_un e]
      exact hf.1 n k1'
  · show upd ss (tj_cc Q) y n = nI (tj_u (tj_S Q) (tj_cc Q) s n)
    have k2' : 2 ≤ tj_u (tj_K Q) (tj_cc Q) kd n := k2
    have k4' : tj_u (tj_K Q) (tj_cc Q) kd n ≤ 4 := k4
    by_cases e : n = tj_cc Q
    · rw [e, tj_us] at k2' k4'
      rw [e, tj_us, pk_us]
      exact h2 k2' k4'
    · rw [tj_un _ e] at k2' k4' ⊢
      rw [pk_un e]
      exact hf.2 n k2' k4'
theorem tj_lg6 {v : Int32} (h : nI 6 ≤ v) : ¬ v < 0 ∧ ¬ v < 1 ∧ ¬ v < 2 ∧ 4 < v ∧ 5 < v := by
  have e6 : (nI 6).toInt = 6 := by decide
  have e0 : (0 : Int32).toInt = 0 := by decide
  have e1 : (1 : Int32).toInt = 1 := by decide
  have e2 : (2 : Int32).toInt = 2 := by decide
  have e4 : (4 : Int32).toInt = 4 := by decide
  have e5 : (5 : Int32).toInt = 5 := by decide
  rw [Int32.le_iff_toInt_le, e6] at h
  simp only [Int32.lt_iff_toInt_lt, e0, e1, e2, e4, e5]
  omega
theorem tj_sm0 {v : Int32} (h : v < 0) : v < 1 ∧ v < 2 := by
  have e0 : (0 : Int32).toInt = 0 := by decide
  have e1 : (1 : Int32).toInt = 1 := by decide
  have e2 : (2 : Int32).toInt = 2 := by decide
  rw [Int32.lt_iff_toInt_lt, e0] at h
  simp only [Int32.lt_iff_toInt_lt, e1, e2]
  omega
theorem tj_node_g {k : Nat} {Q : tj_C} {kn : Int32} {il fl : Int64} {mz mo : Nat → Int64} {fs ss my kp : Nat → Int32} (hw : tj_W Q) (hl : tj_lo Q = -1) (hf : tj_FS Q fs ss) (hg : kn = 0 ∨ (kn = 1 ∧ tj_Good Q il fl mz mo)) {kd : Nat} (h6 : kd < 6) (x2 x3 : Int32) :
    wpX_node (fun r u' => wpY_node (fun r' v' => r' = r ∧ i_Rel (k + 6) u' v') (tj_Y Q fs ss my kp) (nI kd) x2 x3) (tj_X Q kn il fl mz mo) (nI kd) x2 x3 := by
  have hc := hw.1.1
  by_cases hb : (tj_one kd = true ∧ (x2 < 0 ∨ nI (tj_cc Q) ≤ x2)) ∨ (tj_two kd = true ∧ (∃ i, i < tj_cc Q ∧ x2 = nI i) ∧ (x3 < 0 ∨ nI (tj_cc Q) ≤ x3))
  · exact tj_xnode_n hc h6 hb (tj_ynode_n hc h6 hb ⟨rfl, tj_rel hw hl hf hg⟩)
  · have h1 : tj_one kd = true → ∃ i, i < tj_cc Q ∧ x2 = nI i := by
      intro z
      rcases pk_ix x2 (n := tj_cc Q) (by omega) with q | q | q
      · exact absurd (Or.inl ⟨z, Or.inl q⟩) hb
      · exact absurd (Or.inl ⟨z, Or.inr q⟩) hb
      · exact q
    have h2 : tj_two kd = true → ∃ i, i < tj_cc Q ∧ x3 = nI i := by
      intro z
      have q2 := tj_two_t.mp z
      have q1 := h1 (tj_one_t.mpr (by omega))
      rcases pk_ix x3 (n := tj_cc Q) (by omega) with q | q | q
      · exact absurd (Or.inr ⟨z, q1, Or.inl q⟩) hb
      · exact absurd (Or.inr ⟨z, q1, Or.inr q⟩) hb
      · exact q
    by_cases c20 : tj_cc Q = 20
    · have c : nI (tj_cc Q) = 20 := by rw [c20]; rfl
      refine tj_xnode_y hc h6 h1 h2 ?_
      unfold wX_node_71
      refine br_t c (tj_ynode_y hc h6 h1 h2 ?_)
      unfold wY_node_46
      exact br_t c ⟨rfl, tj_rel hw hl hf hg⟩
    · obtain ⟨f, hf20, f1, f5, f0⟩ : ∃ f, f < 20 ∧ (tj_one kd = true → f < tj_cc Q ∧ x2 = nI f) ∧ (kd = 5 → f = tj_cc Q) ∧ (kd = 0 → f = 0) := by
        cases z : tj_one kd
        · have z' := tj_one_f z
          by_cases e5 : kd = 5
          · exact ⟨tj_cc Q, by omega, (fun y => by cases y), (fun _ => rfl), (fun y => by omega)⟩
          · exact ⟨0, by omega, (fun y => by cases y), (fun y => absurd y e5), (fun y => rfl)⟩
        · obtain ⟨i, hi, e⟩ := h1 z
          have z' := tj_one_t.mp z
          exact ⟨i, by omega, (fun _ => ⟨hi, e⟩), (fun y => by omega), (fun y => by omega)⟩
      obtain ⟨s, hs20, s1, s0⟩ : ∃ s, s < 20 ∧ (tj_two kd = true → s < tj_cc Q ∧ x3 = nI s) ∧ (tj_two kd = false → s = 0) := by
        cases z : tj_two kd
        · exact ⟨0, by omega, (fun y => by cases y), (fun _ => rfl)⟩
        · obtain ⟨i, hi, e⟩ := h2 z
          exact ⟨i, by omega, (fun _ => ⟨hi, e⟩), (fun y => by cases y)⟩
      refine tj_xnode_y hc h6 h1 h2 (tj_x71 (by omega) h6 hf20 hs20 (fun z => (f1 z).2) f5 f0 (fun z => (s1 z).2) s0 ?_)
      refine tj_ynode_y hc h6 h1 h2 (tj_y46 (f := f) (s := s) (by omega) h6 (fun z z5 zn => ⟨rfl, tj_rel (tj_nd_W hw (by omega) h6 hf20 (fun a b => (f1 (tj_one_t.mpr ⟨a, b⟩)).1) f5 (fun a b => (s1 (tj_two_t.mpr ⟨a, b⟩)).1)) hl (tj_nd_F hf (fun a => ?_) (fun a b => (s1 (tj_two_t.mpr ⟨a, b⟩)).2)) (Or.inl rfl)⟩))
      by_cases e5 : kd = 5
      · rw [z5 e5, f5 e5]
      · rw [zn e5]
        exact (f1 (tj_one_t.mpr (by omega))).2
theorem i_vc_node {k : Nat} {u : SX} {v : SY} (I : i_Rel k u v) (hk : k + 6 ≤ 3072) (v1 : Int32) (v2 : Int32) (v3 : Int32) : wpX_node (fun r u' => wpY_node (fun r' v' => r' = r ∧ i_Rel (k + 6) u' v') v v1 v2 v3) u v1 v2 v3 := by
  obtain ⟨Q, kn, il, fl, mz, mo, fs, ss, my, kp, rfl, rfl, hw, hl, hf, hg⟩ := I
  rcases pk_ix v1 (n := 6) (by omega) with q | q | ⟨kd, h6, rfl⟩
  · have c := tj_sm0 q
    unfold wpX_node tj_X wpY_node tj_Y
    dsimp only
    unfold wX_node_14 wX_node_15 wX_node_31 wX_node_32
    exact br_t c.1 (br_t c.2 (br_t q (br_t q ⟨rfl, tj_rel hw hl hf hg⟩)))
  · have c := tj_lg6 q
    unfold wpX_node tj_X wpY_node tj_Y
    dsimp only
    unfold wX_node_14 wX_node_15 wX_node_31 wX_node_32
    exact br_f c.2.1 (br_t c.2.2.2.1 (br_f c.2.2.1 (br_t c.2.2.2.1 (br_f c.1 (br_t c.2.2.2.2 (br_f c.1 (br_t c.2.2.2.2 ⟨rfl, tj_rel hw hl hf hg⟩)))))))
  · exact tj_node_g hw hl hf hg h6 v2 v3
end
section
/-! connect, item -/
theorem tj_args' (Q : tj_C) (hc : tj_cc Q ≤ 20) (w : Int32) : (w < 0 ∨ nI (tj_cc Q) ≤ w) ∨ ∃ i, i < tj_cc Q ∧ w = nI i := by
  rcases pk_ix w (n := tj_cc Q) (by omega) with q | q | q
  · exact Or.inl (Or.inl q)
  · exact Or.inl (Or.inr q)
  · exact Or.inr q
theorem tj_args14 (w : Int32) : (w < 0 ∨ nI 14 ≤ w) ∨ ∃ i, i < 14 ∧ w = nI i := by
  rcases pk_ix w (n := 14) (by omega) with q | q | q
  · exact Or.inl (Or.inl q)
  · exact Or.inl (Or.inr q)
  · exact Or.inr q
def tj_cn (Q : tj_C) (k i : Nat) : tj_C := (tj_cc Q, tj_K Q, tj_u (tj_F Q) k i, tj_S Q, tj_I Q, tj_M Q, tj_P Q, tj_D Q, tj_G Q, tj_lo Q)
theorem tj_cn_W {Q : tj_C} (hw : tj_W Q) {j i : Nat} (hi : i < tj_cc Q) (hK5 : tj_K Q j = 5) : tj_W (tj_cn Q j i) := by
  obtain ⟨⟨hc, hK, hF, hF1, hF5, hS⟩, hT⟩ := hw
  refine ⟨⟨hc, hK, fun n => ?_, fun n hn k1 k4 => ?_, fun n hn k5 => ?_, hS⟩, hT⟩
  · show tj_u (tj_F Q) j i n < 20
    by_cases e : n = j
    · rw [e, tj_us]; omega
    · rw [tj_un _ e]; exact hF n
  · show tj_u (tj_F Q) j i n < n
    have k4' : tj_K Q n ≤ 4 := k4
    have e : n ≠ j := fun e => by rw [e, hK5] at k4'; omega
    rw [tj_un _ e]
    exact hF1 n hn k1 k4
  · show tj_u (tj_F Q) j i n < tj_cc Q
    by_cases e : n = j
    · rw [e, tj_us]; exact hi
    · rw [tj_un _ e]; exact hF5 n hn k5
theorem tj_cn_F {Q : tj_C} {fs ss : Nat → Int32} (hf : tj_FS Q fs ss) (j i : Nat) : tj_FS (tj_cn Q j i) (upd fs j (nI i)) ss := by
  refine ⟨fun n k1 => ?_, hf.2⟩
  show upd fs j (nI i) n = nI (tj_u (tj_F Q) j i n)
  by_cases e : n = j
  · rw [e, tj_us, pk_us]
  · rw [tj_un _ e, pk_un e]
    exact hf.1 n k1
theorem i_vc_connect {k : Nat} {u : SX} {v : SY} (I : i_Rel k u v) (hk : k + 6 ≤ 3072) (v1 : Int32) (v2 : Int32) : wpX_connect (fun r u' => wpY_connect (fun r' v' => r' = r ∧ i_Rel (k + 6) u' v') v v1 v2) u v1 v2 := by
  obtain ⟨Q, kn, il, fl, mz, mo, fs, ss, my, kp, rfl, rfl, hw, hl, hf, hg⟩ := I
  have hc := hw.1.1
  unfold wpX_connect tj_X wpY_connect tj_Y
  dsimp only
  rcases tj_args' Q hc v2 with q | ⟨i, hi, rfl⟩
  · exact tj_xnn1 hc q (br_f (by decide) (tj_ynn1 hc q (br_f (by decide) ⟨rfl, tj_rel hw hl hf hg⟩)))
  rcases tj_args' Q hc v1 with q | ⟨j, hj, rfl⟩
  · exact tj_xnn0 hc hi (br_t rfl (tj_xnn1 hc q (br_f (by decide) (tj_ynn0 hc hi (br_t rfl (tj_ynn1 hc q (br_f (by decide) ⟨rfl, tj_rel hw hl hf hg⟩)))))))
  have k5 := hw.1.2.1 j
  have i20 : vp_in (nI j) 20 := vp_in_nI (by omega) (by omega)
  have ec := nI_clamp (n := j) (by omega)
  have rK : tj_aK Q (nI j).toNatClampNeg = nI (tj_K Q j) := tj_rd _ (by omega)
  have rF : tj_aF Q (nI j).toNatClampNeg = nI (tj_F Q j) := tj_rd _ (by omega)
  refine tj_xnn0 hc hi (br_t rfl (tj_xnn0 hc hj (br_t rfl ⟨i20, pk_eq (tj_K Q j) 5 (fun e => ?_) (fun e => ?_) rK⟩)))
  · have rf : fs (nI j).toNatClampNeg = nI (tj_F Q j) := (tj_rd _ (by omega)).trans (hf.1 j (by omega))
    refine ⟨i20, nm_r rF ⟨i20, nm_r (e' := tj_aF (tj_cn Q j i)) (by rw [tj_nar (by omega), ec]; exact tj_uI _ _ _) ?_⟩⟩
    refine tj_ynn0 hc hi (br_t rfl (tj_ynn0 hc hj (br_t rfl ⟨i20, br_t (by rw [rK, e]; rfl) ⟨i20, nm_r rf ⟨i20, nm_r (e' := upd fs j (nI i)) (by rw [ec]) ⟨rfl, ?_⟩⟩⟩⟩)))
    exact tj_rel (Q := tj_cn Q j i) (kn := 0) (il := il) (fl := fl) (mz := mz) (mo := mo) (fs := upd fs j (nI i)) (ss := ss) (my := my) (kp := kp) (tj_cn_W hw hi e) hl (tj_cn_F hf j i) (Or.inl rfl)
  · refine tj_ynn0 hc hi (br_t rfl (tj_ynn0 hc hj (br_t rfl ⟨i20, br_f (by rw [rK]; exact fun z => e ((nI_eq (b := 5) (by omega) (by omega)).mp z)) ⟨rfl, tj_rel hw hl hf hg⟩⟩)))
/-- the circuit with one item more -/
def tj_it (Q : tj_C) (s t i d g : Nat) : tj_C := (tj_cc Q, tj_K Q, tj_F Q, tj_S Q, tj_u (tj_I Q) s (tj_I Q s + 1), tj_u (tj_M Q) (12 * s + tj_I Q s) t, tj_u (tj_P Q) (12 * s + tj_I Q s) i, tj_u (tj_D Q) (12 * s + tj_I Q s) d, tj_u (tj_G Q) (12 * s + tj_I Q s) g, tj_lo Q)
section
variable {Q : tj_C} {kn : Int32} {il fl : Int64} {mz mo : Nat → Int64} {fs ss my kp : Nat → Int32}
theorem tj_x46 {post : Int32 → SX → Prop} {s t i d g : Nat} (hs : s < 2) (hI : tj_I Q s ≤ 12) (ht : t < 4) (hi : i < 20) (hd : d < 14) (hgd : g < 14) (h0 : tj_I Q s = 12 → post (-2) (tj_X Q kn il fl mz mo)) (h : tj_I Q s ≠ 12 → post (nI (tj_I Q s)) (tj_X (tj_it Q s t i d g) 0 il fl mz mo)) :
    wX_item_46 post (nI t) (nI i) (nI d) (nI g) (nI s) (nI (tj_cc Q)) kn il fl (tj_lo Q) (tj_aK Q) (tj_aF Q) (tj_aS Q) (tj_aI Q) (tj_aM Q) (tj_aP Q) (tj_aD Q) (tj_aG Q) mz mo := by
  have i2 : vp_in (nI s) 2 := vp_in_nI hs (by omega)
  have es := nI_clamp (n := s) (by omega)
  have rI : tj_aI Q s = nI (tj_I Q s) := rfl
  unfold wX_item_46
  rw [es, rI]
  refine ⟨i2, pk_eq (tj_I Q s) 12 h0 (fun e => ?_)⟩
  have i24 : vp_in (nI (12 * s + tj_I Q s)) 24 := vp_in_nI (by omega) (by omega)
  have ea := nI_clamp (n := 12 * s + tj_I Q s) (by omega)
  refine ⟨i2, nm_r (tj_m12 s (tj_I Q s)) ?_⟩
  rw [ea, tj_nar (show t < 128 by omega), tj_nar (show i < 128 by omega), tj_nar (show d < 128 by omega), tj_nar (show g < 128 by omega), nI_1, tj_nar (show tj_I Q s + 1 < 128 by omega)]
  refine ⟨i24, nm_r (e' := tj_aM (tj_it Q s t i d g)) (tj_uI _ _ _) ⟨i24, nm_r (e' := tj_aP (tj_it Q s t i d g)) (tj_uI _ _ _) ⟨i24, nm_r (e' := tj_aD (tj_it Q s t i d g)) (tj_uI _ _ _) ⟨i24, nm_r (e' := tj_aG (tj_it Q s t i d g)) (tj_uI _ _ _) ⟨i2, i2, nm_r (e' := tj_aI (tj_it Q s t i d g)) (tj_uI _ _ _) ⟨i2, ?_⟩⟩⟩⟩⟩⟩
  have r : tj_aI (tj_it Q s t i d g) s = nI (tj_I Q s + 1) := congrArg nI (tj_us _ _ _)
  rw [r, nI_pred]
  exact h e
theorem tj_y45 {post : Int32 → SY → Prop} {s t i d g : Nat} (hs : s < 2) (hI : tj_I Q s ≤ 12) (h0 : tj_I Q s = 12 → post (-2) (tj_Y Q fs ss my kp)) (h : tj_I Q s ≠ 12 → post (nI (tj_I Q s)) (tj_Y (tj_it Q s t i d g) fs ss my kp)) :
    wY_item_45 post (nI t) (nI i) (nI d) (nI g) (nI s) (nI (tj_cc Q)) (tj_lo Q) (tj_aK Q) fs ss (tj_aI Q) (tj_aM Q) (tj_aP Q) (tj_aD Q) (tj_aG Q) my kp := by
  have i2 : vp_in (nI s) 2 := vp_in_nI hs (by omega)
  have es := nI_clamp (n := s) (by omega)
  have rI : tj_aI Q s = nI (tj_I Q s) := rfl
  unfold wY_item_45
  rw [es, rI]
  refine ⟨i2, pk_eq (tj_I Q s) 12 h0 (fun e => ?_)⟩
  have i24 : vp_in (nI (12 * s + tj_I Q s)) 24 := vp_in_nI (by omega) (by omega)
  have ea := nI_clamp (n := 12 * s + tj_I Q s) (by omega)
  refine ⟨i2, nm_r (tj_m12 s (tj_I Q s)) ?_⟩
  rw [ea, nI_1]
  refine ⟨i24, nm_r (e' := tj_aM (tj_it Q s t i d g)) (tj_uI _ _ _) ⟨i24, nm_r (e' := tj_aP (tj_it Q s t i d g)) (tj_uI _ _ _) ⟨i24, nm_r (e' := tj_aD (tj_it Q s t i d g)) (tj_uI _ _ _) ⟨i24, nm_r (e' := tj_aG (tj_it Q s t i d g)) (tj_uI _ _ _) ⟨i2, i2, nm_r (e' := tj_aI (tj_it Q s t i d g)) (tj_uI _ _ _) ⟨i2, ?_⟩⟩⟩⟩⟩⟩
  have r : tj_aI (tj_it Q s t i d g) s = nI (tj_I Q s + 1) := congrArg nI (tj_us _ _ _)
  rw [r, nI_pred]
  exact h e
theorem tj_xbl0 {post : Int32 → Prop} {l : Nat} (hl : l < 14) (h : post 0) : wpX_badLiteral post (tj_X Q kn il fl mz mo) (nI l) := by
  unfold wpX_badLiteral tj_X
  dsimp only
  exact br_f (nI_pos (by omega)) (br_t (nI_le (b := 13) (by omega) (by omega)) h)
theorem tj_xbl1 {post : Int32 → Prop} {v : Int32} (hv : v < 0 ∨ nI 14 ≤ v) (h : post 1) : wpX_badLiteral post (tj_X Q kn il fl mz mo) v := by
  unfold wpX_badLiteral tj_X
  dsimp only
  rcases hv with hv | hv
  · exact br_t hv h
  · exact br_f (tj_lt4 (by omega) hv).1 (br_f (tj_le3 (m := 13) (by omega) hv) h)
theorem tj_ynl0 {post : Int32 → Prop} {l : Nat} (hl : l < 14) (h : post 0) : wpY_noLiteral post (tj_Y Q fs ss my kp) (nI l) := by
  unfold wpY_noLiteral tj_Y
  dsimp only
  exact br_f (nI_pos (by omega)) (br_t (nI_le (b := 13) (by omega) (by omega)) h)
theorem tj_ynl1 {post : Int32 → Prop} {v : Int32} (hv : v < 0 ∨ nI 14 ≤ v) (h : post 1) : wpY_noLiteral post (tj_Y Q fs ss my kp) v := by
  unfold wpY_noLiteral tj_Y
  dsimp only
  rcases hv with hv | hv
  · exact br_t hv h
  · exact br_f (tj_lt4 (by omega) hv).1 (br_f (tj_le3 (m := 13) (by omega) hv) h)
end
theorem tj_it_W {Q : tj_C} (hw : tj_W Q) {s t i d g : Nat} (hs : s < 2) (hI : tj_I Q s < 12) (ht : t < 4) (hi : i < tj_cc Q) (hd : d < 14) (hgd : g < 14) : tj_W (tj_it Q s t i d g) := by
  obtain ⟨hN, hT, hI0, hI1, h0⟩ := hw
  have iv : ∀ j, tj_I Q j ≤ 12 → tj_u (tj_I Q) s (tj_I Q s + 1) j ≤ 12 := by
    intro j hj
    by_cases e : j = s
    · rw [e, tj_us]; omega
    · rw [tj_un _ e]; exact hj
  refine ⟨hN, fun j => ?_, iv 0 hI0, iv 1 hI1, fun z => ?_⟩
  · have q := hT j
    show tj_u (tj_M Q) (12 * s + tj_I Q s) t j < 4 ∧ (tj_u (tj_P Q) (12 * s + tj_I Q s) i j < tj_cc Q ∨ tj_u (tj_P Q) (12 * s + tj_I Q s) i j = 0) ∧ tj_u (tj_D Q) (12 * s + tj_I Q s) d j < 14 ∧ tj_u (tj_G Q) (12 * s + tj_I Q s) g j < 14
    by_cases e : j = 12 * s + tj_I Q s
    · rw [e, tj_us, tj_us, tj_us, tj_us]
      exact ⟨ht, Or.inl hi, hd, hgd⟩
    · rw [tj_un _ e, tj_un _ e, tj_un _ e, tj_un _ e]
      exact q
  · have z' : tj_cc Q = 0 := z
    omega
theorem tj_item_g {k : Nat} {Q : tj_C} {kn : Int32} {il fl : Int64} {mz mo : Nat → Int64} {fs ss my kp : Nat → Int32} (hw : tj_W Q) (hl : tj_lo Q = -1) (hf : tj_FS Q fs ss) (hg : kn = 0 ∨ (kn = 1 ∧ tj_Good Q il fl mz mo)) {s t i d g : Nat} (hs : s < 2) (hI : tj_I Q s ≤ 12) (ht : t < 4) (hi : i < tj_cc Q) (hd : d < 14) (hgd : g < 14)
    {R : Int32 → SX → Prop} (hR : ∀ r u', wY_item_45 (fun r' v' => r' = r ∧ i_Rel (k + 6) u' v') (nI t) (nI i) (nI d) (nI g) (nI s) (nI (tj_cc Q)) (tj_lo Q) (tj_aK Q) fs ss (tj_aI Q) (tj_aM Q) (tj_aP Q) (tj_aD Q) (tj_aG Q) my kp → R r u') : wX_item_46 R (nI t) (nI i) (nI d) (nI g) (nI s) (nI (tj_cc Q)) kn il fl (tj_lo Q) (tj_aK Q) (tj_aF Q) (tj_aS Q) (tj_aI Q) (tj_aM Q) (tj_aP Q) (tj_aD Q) (tj_aG Q) mz mo := by
  have hc := hw.1.1
  refine tj_x46 hs hI ht (by omega) hd hgd (fun e => hR _ _ (tj_y45 hs hI (fun _ => ⟨rfl, tj_rel hw hl hf hg⟩) (fun z => absurd e z))) (fun e => hR _ _ (tj_y45 hs hI (fun z => absurd z e) (fun _ => ⟨rfl, ?_⟩)))
  exact tj_rel (Q := tj_it Q s t i d g) (tj_it_W hw hs (by omega) ht hi hd hgd) hl hf (Or.inl rfl)
theorem i_vc_item {k : Nat} {u : SX} {v : SY} (I : i_Rel k u v) (hk : k + 6 ≤ 3072) (v1 : Int32) (v2 : Int32) (v3 : Int32) (v4 : Int32) (v5 : Int32) : wpX_item (fun r u' => wpY_item (fun r' v' => r' = r ∧ i_Rel (k + 6) u' v') v v1 v2 v3 v4 v5) u v1 v2 v3 v4 v5 := by
  obtain ⟨Q, kn, il, fl, mz, mo, fs, ss, my, kp, rfl, rfl, hw, hl, hf, hg⟩ := I
  have hc := hw.1.1
  have hI0 := hw.2.2.1
  have hI1 := hw.2.2.2.1
  unfold wpX_item tj_X wpY_item tj_Y
  dsimp only
  rcases pk_ix v2 (n := 4) (by omega) with q | q | ⟨t, ht, rfl⟩
  · exact br_t q (tj_ynm1 (Or.inl q) (br_f (by decide) ⟨rfl, tj_rel hw hl hf hg⟩))
  · exact br_f (tj_lt4 (by omega) q).1 (br_t q (tj_ynm1 (Or.inr q) (br_f (by decide) ⟨rfl, tj_rel hw hl hf hg⟩)))
  refine br_f (nI_pos (by omega)) (br_f (nI_ge (b := 4) ht (by omega)) ?_)
  rcases tj_args' Q hc v3 with q | ⟨i, hi, rfl⟩
  · exact tj_xnn1 hc q (br_f (by decide) (tj_ynm0 ht (br_t rfl (tj_ynn1 hc q (br_f (by decide) ⟨rfl, tj_rel hw hl hf hg⟩)))))
  rcases tj_args14 v4 with q | ⟨d, hd, rfl⟩
  · exact tj_xnn0 hc hi (br_t rfl (tj_xbl1 (Q := Q) q (br_f (by decide) (tj_ynm0 ht (br_t rfl (tj_ynn0 hc hi (br_t rfl (tj_ynl1 (Q := Q) q (br_f (by decide) ⟨rfl, tj_rel hw hl hf hg⟩)))))))))
  rcases tj_args14 v5 with q | ⟨g, hgd, rfl⟩
  · exact tj_xnn0 hc hi (br_t rfl (tj_xbl0 (Q := Q) hd (br_t rfl (tj_xbl1 (Q := Q) q (br_f (by decide) (tj_ynm0 ht (br_t rfl (tj_ynn0 hc hi (br_t rfl (tj_ynl0 (Q := Q) hd (br_t rfl (tj_ynl1 (Q := Q) q (br_f (by decide) ⟨rfl, tj_rel hw hl hf hg⟩)))))))))))))
  refine tj_xnn0 hc hi (br_t rfl (tj_xbl0 (Q := Q) hd (br_t rfl (tj_xbl0 (Q := Q) hgd (br_t rfl (br_c (fun z => ?_) (fun z => ?_)))))))
  · refine tj_item_g (k := k) (my := my) (kp := kp) (s := 0) hw hl hf hg (by omega) hI0 ht hi hd hgd (fun r u' h => ?_)
    exact tj_ynm0 ht (br_t rfl (tj_ynn0 hc hi (br_t rfl (tj_ynl0 (Q := Q) hd (br_t rfl (tj_ynl0 (Q := Q) hgd (br_t rfl (br_t z h))))))))
  · refine tj_item_g (k := k) (my := my) (kp := kp) (s := 1) hw hl hf hg (by omega) hI1 ht hi hd hgd (fun r u' h => ?_)
    exact tj_ynm0 ht (br_t rfl (tj_ynn0 hc hi (br_t rfl (tj_ynl0 (Q := Q) hd (br_t rfl (tj_ynl0 (Q := Q) hgd (br_t rfl (br_f z h))))))))
end
section
/-! drop -/
def tj_g (f : Nat → Nat) : Nat → Int32 := fun j => nI (f j)
/-- places a to b - 1 moved down by one -/
def tj_sh (f : Nat → Nat) (a b : Nat) : Nat → Nat := fun j => if a ≤ j ∧ j < b then f (j + 1) else f j
theorem tj_sh_0 (f : Nat → Nat) (a : Nat) : tj_sh f a a = f := by
  funext j
  exact if_neg (by omega)
theorem tj_sh_s (f : Nat → Nat) {a b : Nat} (h : a ≤ b) : tj_u (tj_sh f a b) b (tj_sh f a b (b + 1)) = tj_sh f a (b + 1) := by
  funext j
  by_cases e : j = b
  · rw [e, tj_us]
    show tj_sh f a b (b + 1) = if a ≤ b ∧ b < b + 1 then f (b + 1) else f b
    rw [if_pos (by omega)]
    exact if_neg (by omega)
  · rw [tj_un _ e]
    show (if a ≤ j ∧ j < b then f (j + 1) else f j) = if a ≤ j ∧ j < b + 1 then f (j + 1) else f j
    by_cases q : a ≤ j ∧ j < b
    · rw [if_pos q, if_pos (by omega)]
    · rw [if_neg q, if_neg (by omega)]
theorem tj_sh_a {f : Nat → Nat} {R : Nat → Prop} (h : ∀ j, R (f j)) (a b j : Nat) : R (tj_sh f a b j) := by
  unfold tj_sh
  by_cases q : a ≤ j ∧ j < b
  · rw [if_pos q]; exact h _
  · rw [if_neg q]; exact h _
theorem tj_shy (f : Nat → Nat) {a b : Nat} (h : a ≤ b) : upd (tj_g (tj_sh f a b)) b (tj_g (tj_sh f a b) (b + 1)) = tj_g (tj_sh f a (b + 1)) := by
  rw [← tj_sh_s f h]
  exact tj_uI _ _ _
theorem tj_shx {f : Nat → Nat} (hf : ∀ j, f j < 128) {a b : Nat} (h : a ≤ b) : upd (tj_g (tj_sh f a b)) b (vp_nar .byte (tj_g (tj_sh f a b) (b + 1))) = tj_g (tj_sh f a (b + 1)) := by
  rw [← tj_shy f h]
  exact congrArg (upd (tj_g (tj_sh f a b)) b) (tj_nar1 (tj_sh_a (R := fun x => x < 128) hf a b (b + 1)))
/-- the circuit without an item -/
def tj_dr (Q : tj_C) (s a b : Nat) : tj_C := (tj_cc Q, tj_K Q, tj_F Q, tj_S Q, tj_u (tj_I Q) s (tj_I Q s - 1), tj_sh (tj_M Q) a b, tj_sh (tj_P Q) a b, tj_sh (tj_D Q) a b, tj_sh (tj_G Q) a b, tj_lo Q)
theorem tj_dr_W {Q : tj_C} (hw : tj_W Q) (s a b : Nat) : tj_W (tj_dr Q s a b) := by
  obtain ⟨hN, hT, hI0, hI1, h0⟩ := hw
  have iv : ∀ j, tj_u (tj_I Q) s (tj_I Q s - 1) j ≤ tj_I Q j := by
    intro j
    by_cases e : j = s
    · rw [e, tj_us]; omega
    · rw [tj_un _ e]; exact Nat.le_refl _
  refine ⟨hN, fun j => ?_, Nat.le_trans (iv 0) hI0, Nat.le_trans (iv 1) hI1, fun z => ?_⟩
  · exact ⟨tj_sh_a (R := fun x => x < 4) (fun j => (hT j).1) a b j, tj_sh_a (R := fun x => x < tj_cc Q ∨ x = 0) (fun j => (hT j).2.1) a b j, tj_sh_a (R := fun x => x < 14) (fun j => (hT j).2.2.1) a b j, tj_sh_a (R := fun x => x < 14) (fun j => (hT j).2.2.2) a b j⟩
  · have q := h0 z
    have q' := iv 1
    show tj_u (tj_I Q) s (tj_I Q s - 1) 1 = 0
    omega
section
variable {Q : tj_C} {kn : Int32} {il fl : Int64} {mz mo : Nat → Int64} {fs ss my kp : Nat → Int32}
theorem tj_xd46 {post : Int32 → SX → Prop} (hw : tj_W Q) {s a : Nat} (hs : s < 2) (hI : tj_I Q s ≤ 12) (hI0 : 0 < tj_I Q s)
    (h : post (nI (tj_I Q s - 1)) (tj_X (tj_dr Q s a (12 * s + (tj_I Q s - 1))) 0 il fl mz mo)) :
    ∀ n i, a ≤ i → i ≤ 12 * s + (tj_I Q s - 1) → 12 * s + (tj_I Q s - 1) < n + i →
    wX_drop_46 post (nI s) (nI (tj_cc Q)) kn il fl (tj_lo Q) n (nI i) (tj_aK Q) (tj_aF Q) (tj_aS Q) (tj_g (tj_u (tj_I Q) s (tj_I Q s - 1))) (tj_g (tj_sh (tj_M Q) a i)) (tj_g (tj_sh (tj_P Q) a i)) (tj_g (tj_sh (tj_D Q) a i)) (tj_g (tj_sh (tj_G Q) a i)) mz mo := by
  have hT := hw.2.1
  have hc := hw.1.1
  have i2 : vp_in (nI s) 2 := vp_in_nI hs (by omega)
  have rI : tj_g (tj_u (tj_I Q) s (tj_I Q s - 1)) (nI s).toNatClampNeg = nI (tj_I Q s - 1) := by
    rw [nI_clamp (by omega)]
    exact congrArg nI (tj_us _ _ _)
  have hx : (12 : Int32) * nI s + tj_g (tj_u (tj_I Q) s (tj_I Q s - 1)) (nI s).toNatClampNeg = nI (12 * s + (tj_I Q s - 1)) := by rw [rI, tj_m12]
  intro n
  induction n with
  | zero => intro i _ _ h; omega
  | succ n ih =>
    intro i hai hie hn
    refine And.intro i2 (pk_le (12 * s + (tj_I Q s - 1)) i (fun q => And.intro i2 ?_) (fun q => ?_) hx)
    · have e : i = 12 * s + (tj_I Q s - 1) := by omega
      rw [rI, e]
      exact h
    · have j24 : vp_in (nI (i + 1)) 24 := vp_in_nI (by omega) (by omega)
      have i24 : vp_in (nI i) 24 := vp_in_nI (by omega) (by omega)
      have ei := nI_clamp (n := i) (by omega)
      have ej := nI_clamp (n := i + 1) (by omega)
      rw [nI_1 i, ei, ej]
      refine ⟨j24, i24, nm_r (tj_shx (fun j => Nat.lt_trans (hT j).1 (by omega)) hai) ⟨j24, i24, nm_r (tj_shx (fun j => by have := (hT j).2.1; omega) hai) ⟨j24, i24, nm_r (tj_shx (fun j => Nat.lt_trans (hT j).2.2.1 (by omega)) hai) ⟨j24, i24, nm_r (tj_shx (fun j => Nat.lt_trans (hT j).2.2.2 (by omega)) hai) (nm_e (ih (i + 1) (by omega) (by omega) (by omega)))⟩⟩⟩⟩
theorem tj_yd45 {post : Int32 → SY → Prop} {s a : Nat} (hs : s < 2) (hI : tj_I Q s ≤ 12) (hI0 : 0 < tj_I Q s)
    (h : post (nI (tj_I Q s - 1)) (tj_Y (tj_dr Q s a (12 * s + (tj_I Q s - 1))) fs ss my kp)) :
    ∀ n i, a ≤ i → i ≤ 12 * s + (tj_I Q s - 1) → 12 * s + (tj_I Q s - 1) < n + i →
    wY_drop_45 post (nI s) (nI (tj_cc Q)) (tj_lo Q) n (nI i) (tj_aK Q) fs ss (tj_g (tj_u (tj_I Q) s (tj_I Q s - 1))) (tj_g (tj_sh (tj_M Q) a i)) (tj_g (tj_sh (tj_P Q) a i)) (tj_g (tj_sh (tj_D Q) a i)) (tj_g (tj_sh (tj_G Q) a i)) my kp := by
  have i2 : vp_in (nI s) 2 := vp_in_nI hs (by omega)
  have rI : tj_g (tj_u (tj_I Q) s (tj_I Q s - 1)) (nI s).toNatClampNeg = nI (tj_I Q s - 1) := by
    rw [nI_clamp (by omega)]
    exact congrArg nI (tj_us _ _ _)
  have hx : (12 : Int32) * nI s + tj_g (tj_u (tj_I Q) s (tj_I Q s - 1)) (nI s).toNatClampNeg = nI (12 * s + (tj_I Q s - 1)) := by rw [rI, tj_m12]
  intro n
  induction n with
  | zero => intro i _ _ h; omega
  | succ n ih =>
    intro i hai hie hn
    refine And.intro i2 (pk_le (12 * s + (tj_I Q s - 1)) i (fun q => And.intro i2 ?_) (fun q => ?_) hx)
    · have e : i = 12 * s + (tj_I Q s - 1) := by omega
      rw [rI, e]
      exact h
    · have j24 : vp_in (nI (i + 1)) 24 := vp_in_nI (by omega) (by omega)
      have i24 : vp_in (nI i) 24 := vp_in_nI (by omega) (by omega)
      have ei := nI_clamp (n := i) (by omega)
      have ej := nI_clamp (n := i + 1) (by omega)
      rw [nI_1 i, ei, ej]
      refine ⟨j24, i24, nm_r (tj_shy _ hai) ⟨j24, i24, nm_r (tj_shy _ hai) ⟨j24, i24, nm_r (tj_shy _ hai) ⟨j24, i24, nm_r (tj_shy _ hai) (nm_e (ih (i + 1) (by omega) (by omega) (by omega)))⟩⟩⟩⟩
theorem tj_xd9 {post : Int32 → SX → Prop} (hw : tj_W Q) {s : Nat} {x2 : Int32} (hs : s < 2) (hI : tj_I Q s ≤ 12) (h0 : (¬ ∃ j, j < tj_I Q s ∧ x2 = nI j) → post (-4) (tj_X Q kn il fl mz mo))
    (h : ∀ j, j < tj_I Q s → x2 = nI j → post (nI (tj_I Q s - 1)) (tj_X (tj_dr Q s (12 * s + j) (12 * s + (tj_I Q s - 1))) 0 il fl mz mo)) : wX_drop_9 post x2 (nI s) (nI (tj_cc Q)) kn il fl (tj_lo Q) (tj_aK Q) (tj_aF Q) (tj_aS Q) (tj_aI Q) (tj_aM Q) (tj_aP Q) (tj_aD Q) (tj_aG Q) mz mo := by
  have i2 : vp_in (nI s) 2 := vp_in_nI hs (by omega)
  have es := nI_clamp (n := s) (by omega)
  have rI : tj_aI Q s = nI (tj_I Q s) := rfl
  unfold wX_drop_9
  rw [es, rI]
  rcases pk_ix x2 (n := tj_I Q s) (by omega) with q | q | ⟨j, hj, rfl⟩
  · exact br_t q (h0 fun ⟨j, hj, e⟩ => by rw [e] at q; exact nI_pos (by omega) q)
  · have c := tj_lt4 (by omega) q
    exact br_f c.1 ⟨i2, br_f c.2 (h0 fun ⟨j, hj, e⟩ => by rw [e] at c; exact c.2 (nI_lt hj (by omega)))⟩
  · have e1 : nI (tj_I Q s) - 1 = nI (tj_I Q s - 1) := pk_sub (b := 1) (by omega)
    refine br_f (nI_pos (by omega)) ⟨i2, br_t (nI_lt hj (by omega)) ⟨i2, i2, nm_r (e' := tj_g (tj_u (tj_I Q) s (tj_I Q s - 1))) ?_ (nm_r (tj_m12 s j) ⟨24, ?_⟩)⟩⟩
    · rw [e1, tj_nar (by omega)]
      exact tj_uI _ _ _
    · have g := tj_xd46 (kn := kn) hw hs hI (by omega) (h j hj rfl) 24 (12 * s + j) (Nat.le_refl _) (by omega) (by omega)
      rw [tj_sh_0, tj_sh_0, tj_sh_0, tj_sh_0] at g
      exact g
theorem tj_yd9 {post : Int32 → SY → Prop} {s : Nat} {x2 : Int32} (hs : s < 2) (hI : tj_I Q s ≤ 12) (h0 : (¬ ∃ j, j < tj_I Q s ∧ x2 = nI j) → post (-4) (tj_Y Q fs ss my kp))
    (h : ∀ j, j < tj_I Q s → x2 = nI j → post (nI (tj_I Q s - 1)) (tj_Y (tj_dr Q s (12 * s + j) (12 * s + (tj_I Q s - 1))) fs ss my kp)) : wY_drop_9 post x2 (nI s) (nI (tj_cc Q)) (tj_lo Q) (tj_aK Q) fs ss (tj_aI Q) (tj_aM Q) (tj_aP Q) (tj_aD Q) (tj_aG Q) my kp := by
  have i2 : vp_in (nI s) 2 := vp_in_nI hs (by omega)
  have es := nI_clamp (n := s) (by omega)
  have rI : tj_aI Q s = nI (tj_I Q s) := rfl
  unfold wY_drop_9
  rw [es, rI]
  rcases pk_ix x2 (n := tj_I Q s) (by omega) with q | q | ⟨j, hj, rfl⟩
  · exact br_t q (h0 fun ⟨j, hj, e⟩ => by rw [e] at q; exact nI_pos (by omega) q)
  · have c := tj_lt4 (by omega) q
    exact br_f c.1 ⟨i2, br_f c.2 (h0 fun ⟨j, hj, e⟩ => by rw [e] at c; exact c.2 (nI_lt hj (by omega)))⟩
  · have e1 : nI (tj_I Q s) - 1 = nI (tj_I Q s - 1) := pk_sub (b := 1) (by omega)
    refine br_f (nI_pos (by omega)) ⟨i2, br_t (nI_lt hj (by omega)) ⟨i2, i2, nm_r (e' := tj_g (tj_u (tj_I Q) s (tj_I Q s - 1))) ?_ (nm_r (tj_m12 s j) ⟨24, ?_⟩)⟩⟩
    · rw [e1]
      exact tj_uI _ _ _
    · have g := tj_yd45 hs hI (by omega) (h j hj rfl) 24 (12 * s + j) (Nat.le_refl _) (by omega) (by omega)
      rw [tj_sh_0, tj_sh_0, tj_sh_0, tj_sh_0] at g
      exact g
end
theorem tj_drop_g {k : Nat} {Q : tj_C} {kn : Int32} {il fl : Int64} {mz mo : Nat → Int64} {fs ss my kp : Nat → Int32} (hw : tj_W Q) (hl : tj_lo Q = -1) (hf : tj_FS Q fs ss) (hg : kn = 0 ∨ (kn = 1 ∧ tj_Good Q il fl mz mo)) {s : Nat} (hs : s < 2) (hI : tj_I Q s ≤ 12) (x2 : Int32)
    {R : Int32 → SX → Prop} (hR : ∀ r u', wY_drop_9 (fun r' v' => r' = r ∧ i_Rel (k + 6) u' v') x2 (nI s) (nI (tj_cc Q)) (tj_lo Q) (tj_aK Q) fs ss (tj_aI Q) (tj_aM Q) (tj_aP Q) (tj_aD Q) (tj_aG Q) my kp → R r u') : wX_drop_9 R x2 (nI s) (nI (tj_cc Q)) kn il fl (tj_lo Q) (tj_aK Q) (tj_aF Q) (tj_aS Q) (tj_aI Q) (tj_aM Q) (tj_aP Q) (tj_aD Q) (tj_aG Q) mz mo := by
  refine tj_xd9 hw hs hI (fun e => hR _ _ (tj_yd9 hs hI (fun _ => ⟨rfl, tj_rel hw hl hf hg⟩) (fun j hj q => absurd ⟨j, hj, q⟩ e))) (fun j hj q => hR _ _ (tj_yd9 hs hI (fun z => absurd ⟨j, hj, q⟩ z) (fun j' hj' q' => ⟨rfl, ?_⟩)))
  have e : j' = j := (nI_eq (by omega) (by omega)).mp (q'.symm.trans q)
  rw [e]
  exact tj_rel (Q := tj_dr Q s (12 * s + j) (12 * s + (tj_I Q s - 1))) (tj_dr_W hw _ _ _) hl hf (Or.inl rfl)
theorem i_vc_drop {k : Nat} {u : SX} {v : SY} (I : i_Rel k u v) (hk : k + 6 ≤ 3072) (v1 : Int32) (v2 : Int32) : wpX_drop (fun r u' => wpY_drop (fun r' v' => r' = r ∧ i_Rel (k + 6) u' v') v v1 v2) u v1 v2 := by
  obtain ⟨Q, kn, il, fl, mz, mo, fs, ss, my, kp, rfl, rfl, hw, hl, hf, hg⟩ := I
  unfold wpX_drop tj_X wpY_drop tj_Y
  dsimp only
  refine br_c (fun z => ?_) (fun z => ?_)
  · exact tj_drop_g (k := k) (my := my) (kp := kp) (s := 0) hw hl hf hg (by omega) hw.2.2.1 v2 (fun r u' h => br_t z h)
  · exact tj_drop_g (k := k) (my := my) (kp := kp) (s := 1) hw hl hf hg (by omega) hw.2.2.2.1 v2 (fun r u' h => br_f z h)
end
section
/-! cone: one pass is one function on both sides; the set only grows -/
theorem tj_cd (x : Int32) {i : Nat} (hi : i < 32) : ((x >>> (nI i &&& 31)) &&& 1 = 1) ↔ bt x i = true := by
  have e : (x >>> (nI i &&& 31)) &&& 1 = tj_i (bt x i) := by
    apply Int32.toBitVec_inj.mp
    rw [Int32.toBitVec_and]
    show ((x >>> (nI i &&& 31)).toBitVec &&& 1#32) = _
    have q : (x >>> (nI i &&& 31)).toBitVec.getLsbD 0 = bt x i := by
      have b := b_sshr i hi x (i := 0) (by omega)
      rw [if_pos (by omega)] at b
      exact b
    rw [BitVec.and_one_eq_setWidth_ofBool_getLsbD, q]
    cases bt x i <;> rfl
  rw [e]
  exact tj_i1
/-- the step at node i -/
def tj_st1 (Q : tj_C) (i : Nat) (x : Int32) : Int32 := if tj_K Q i = 0 then x else x ||| ((1 : Int32) <<< (nI (tj_F Q i) &&& 31))
def tj_st2 (Q : tj_C) (i : Nat) (x : Int32) : Int32 := if 2 ≤ tj_K Q i ∧ tj_K Q i ≤ 4 then x ||| ((1 : Int32) <<< (nI (tj_S Q i) &&& 31)) else x
def tj_stp (Q : tj_C) (i : Nat) (x : Int32) : Int32 := bif bt x i then tj_st2 Q i (tj_st1 Q i x) else x
def tj_ps (Q : tj_C) (x : Int32) : Nat → Int32
  | 0 => x
  | i + 1 => tj_stp Q i (tj_ps Q x i)
theorem tj_orn (x m : Int32) : x.toBitVec.toNat ≤ (x ||| m).toBitVec.toNat := by
  rw [Int32.toBitVec_or, BitVec.toNat_or]
  exact Nat.left_le_or
theorem tj_st1_le (Q : tj_C) (i : Nat) (x : Int32) : x.toBitVec.toNat ≤ (tj_st1 Q i x).toBitVec.toNat := by
  unfold tj_st1
  by_cases h : tj_K Q i = 0
  · rw [if_pos h]; exact Nat.le_refl _
  · rw [if_neg h]; exact tj_orn _ _
theorem tj_st2_le (Q : tj_C) (i : Nat) (x : Int32) : x.toBitVec.toNat ≤ (tj_st2 Q i x).toBitVec.toNat := by
  unfold tj_st2
  by_cases h : 2 ≤ tj_K Q i ∧ tj_K Q i ≤ 4
  · rw [if_pos h]; exact tj_orn _ _
  · rw [if_neg h]; exact Nat.le_refl _
theorem tj_stp_le (Q : tj_C) (i : Nat) (x : Int32) : x.toBitVec.toNat ≤ (tj_stp Q i x).toBitVec.toNat := by
  unfold tj_stp
  cases bt x i
  · exact Nat.le_refl _
  · exact Nat.le_trans (tj_st1_le Q i x) (tj_st2_le Q i _)
theorem tj_ps_le (Q : tj_C) (x : Int32) : ∀ i, x.toBitVec.toNat ≤ (tj_ps Q x i).toBitVec.toNat
  | 0 => Nat.le_refl _
  | i + 1 => Nat.le_trans (tj_ps_le Q x i) (tj_stp_le Q i _)
theorem tj_st1_b {Q : tj_C} {i : Nat} {x : Int32} (h : bt x i = true) : bt (tj_st1 Q i x) i = true := by
  unfold tj_st1
  by_cases e : tj_K Q i = 0
  · rw [if_pos e]; exact h
  · rw [if_neg e, b_or, h]; rfl
section
variable {Q : tj_C} {kn : Int32} {il fl : Int64} {mz mo : Nat → Int64} {fs ss my kp : Nat → Int32}
theorem tj_x82 {post : Int32 → Prop} {J16 J26 : Int32 → Int32 → Prop} {x3 x : Int32} {i : Nat} (hi : i < 20) (hK : tj_K Q i ≤ 5) (h : J26 (tj_st2 Q i x) (nI (i + 1))) : wX_cone_82 post J16 J26 x3 (nI i) 1 x (nI (tj_cc Q)) kn il fl (tj_lo Q) (tj_aK Q) (tj_aF Q) (tj_aS Q) (tj_aI Q) (tj_aM Q) (tj_aP Q) (tj_aD Q) (tj_aG Q) mz mo := by
  have i20 : vp_in (nI i) 20 := vp_in_nI hi (by omega)
  have rK : tj_aK Q (nI i).toNatClampNeg = nI (tj_K Q i) := tj_rd _ (by omega)
  have rS : tj_aS Q (nI i).toNatClampNeg = nI (tj_S Q i) := tj_rd _ (by omega)
  unfold tj_st2 at h
  unfold wX_cone_82
  refine br_f (by decide) ⟨i20, pk_lt (tj_K Q i) 2 (fun q => ?_) (fun q => ⟨i20, pk_lt 4 (tj_K Q i) (fun q' => ?_) (fun q' => ⟨i20, ?_⟩) rfl rK⟩) rK⟩
  · rw [if_neg (by omega)] at h
    exact nm_r (nI_1 i) h
  · rw [if_neg (by omega)] at h
    exact nm_r (nI_1 i) h
  · rw [if_pos (by omega)] at h
    rw [rS]
    exact nm_e (nm_r (nI_1 i) h)
theorem tj_x26 {post : Int32 → Prop} {J16 : Int32 → Int32 → Prop} {x x3 : Int32} (hw : tj_W Q) (h : J16 (tj_ps Q x (tj_cc Q)) x3) :
    ∀ n i, i ≤ tj_cc Q → tj_cc Q < n + i → wX_cone_26 post J16 x3 (nI (tj_cc Q)) kn il fl (tj_lo Q) (tj_aK Q) (tj_aF Q) (tj_aS Q) (tj_aI Q) (tj_aM Q) (tj_aP Q) (tj_aD Q) (tj_aG Q) mz mo n (tj_ps Q x i) (nI i) := by
  intro n
  induction n with
  | zero => intro i _ h; omega
  | succ n ih =>
    intro i hi hn
    have hc := hw.1.1
    have hK := hw.1.2.1 i
    refine pk_le (tj_cc Q) i (fun q => ?_) (fun q => ?_)
    · have e : i = tj_cc Q := by omega
      rw [e]
      exact h
    · have i20 : vp_in (nI i) 20 := vp_in_nI (by omega) (by omega)
      have rK : tj_aK Q (nI i).toNatClampNeg = nI (tj_K Q i) := tj_rd _ (by omega)
      have rF : tj_aF Q (nI i).toNatClampNeg = nI (tj_F Q i) := tj_rd _ (by omega)
      have g : wX_cone_26 post J16 x3 (nI (tj_cc Q)) kn il fl (tj_lo Q) (tj_aK Q) (tj_aF Q) (tj_aS Q) (tj_aI Q) (tj_aM Q) (tj_aP Q) (tj_aD Q) (tj_aG Q) mz mo n (tj_stp Q i (tj_ps Q x i)) (nI (i + 1)) := ih (i + 1) (by omega) (by omega)
      unfold tj_stp at g
      refine tj_brb (tj_cd _ (by omega)) (fun z => ?_) (fun z => ?_)
      · rw [z] at g
        unfold wX_cone_50
        refine br_f (by decide) ⟨i20, pk_eq (tj_K Q i) 0 (fun e => ?_) (fun e => ⟨i20, ?_⟩) rK⟩
        · unfold wX_cone_81
          refine tj_x82 (by omega) hK ?_
          unfold tj_st1 at g
          rw [if_pos e] at g
          exact g
        · rw [rF]
          refine tj_x82 (by omega) hK ?_
          unfold tj_st1 at g
          rw [if_neg e] at g
          exact g
      · rw [z] at g
        unfold wX_cone_50 wX_cone_81 wX_cone_82
        exact br_t rfl (br_t rfl (nm_r (nI_1 i) g))
theorem tj_y67 {post : Int32 → Prop} {J16 J26 : Int32 → Int32 → Prop} {x3 x : Int32} {i : Nat} (hf : tj_FS Q fs ss) (hi : i < 20) (hK : tj_K Q i ≤ 5) (hb : bt x i = true) (h : J26 (tj_st2 Q i x) (nI (i + 1))) : wY_cone_67 post J16 J26 x x3 (nI i) (nI (tj_cc Q)) (tj_lo Q) (tj_aK Q) fs ss (tj_aI Q) (tj_aM Q) (tj_aP Q) (tj_aD Q) (tj_aG Q) my kp := by
  have i20 : vp_in (nI i) 20 := vp_in_nI hi (by omega)
  have rK : tj_aK Q (nI i).toNatClampNeg = nI (tj_K Q i) := tj_rd _ (by omega)
  unfold tj_st2 at h
  unfold wY_cone_67
  refine br_t ((tj_cd _ (by omega)).mpr hb) ⟨i20, pk_le (tj_K Q i) 1 (fun q => ?_) (fun q => ⟨i20, pk_le 5 (tj_K Q i) (fun q' => ?_) (fun q' => ⟨i20, ?_⟩) rfl rK⟩) rK⟩
  · rw [if_neg (by omega)] at h
    exact nm_r (nI_1 i) h
  · rw [if_neg (by omega)] at h
    exact nm_r (nI_1 i) h
  · rw [if_pos (by omega)] at h
    have rS : ss (nI i).toNatClampNeg = nI (tj_S Q i) := (tj_rd _ (by omega)).trans (hf.2 i (by omega) (by omega))
    rw [rS]
    exact nm_e (nm_r (nI_1 i) h)
theorem tj_y26 {post : Int32 → Prop} {J16 : Int32 → Int32 → Prop} {x x3 : Int32} (hw : tj_W Q) (hf : tj_FS Q fs ss) (h : J16 (tj_ps Q x (tj_cc Q)) x3) :
    ∀ n i, i ≤ tj_cc Q → tj_cc Q < n + i → wY_cone_26 post J16 x3 (nI (tj_cc Q)) (tj_lo Q) (tj_aK Q) fs ss (tj_aI Q) (tj_aM Q) (tj_aP Q) (tj_aD Q) (tj_aG Q) my kp n (tj_ps Q x i) (nI i) := by
  intro n
  induction n with
  | zero => intro i _ h; omega
  | succ n ih =>
    intro i hi hn
    have hc := hw.1.1
    have hK := hw.1.2.1 i
    refine pk_le (tj_cc Q) i (fun q => ?_) (fun q => ?_)
    · have e : i = tj_cc Q := by omega
      rw [e]
      exact h
    · have i20 : vp_in (nI i) 20 := vp_in_nI (by omega) (by omega)
      have rK : tj_aK Q (nI i).toNatClampNeg = nI (tj_K Q i) := tj_rd _ (by omega)
      have g : wY_cone_26 post J16 x3 (nI (tj_cc Q)) (tj_lo Q) (tj_aK Q) fs ss (tj_aI Q) (tj_aM Q) (tj_aP Q) (tj_aD Q) (tj_aG Q) my kp n (tj_stp Q i (tj_ps Q x i)) (nI (i + 1)) := ih (i + 1) (by omega) (by omega)
      unfold tj_stp at g
      refine tj_brb (tj_cd _ (by omega)) (fun z => ⟨i20, pk_le (tj_K Q i) 0 (fun e => ?_) (fun e => ⟨i20, ?_⟩) rK⟩) (fun z => ?_)
      · rw [z] at g
        refine tj_y67 hf (by omega) hK z ?_
        unfold tj_st1 at g
        rw [if_pos (by omega)] at g
        exact g
      · rw [z] at g
        have rF : fs (nI i).toNatClampNeg = nI (tj_F Q i) := (tj_rd _ (by omega)).trans (hf.1 i (by omega))
        have b := tj_st1_b (Q := Q) z
        rw [rF]
        unfold tj_st1 at g b
        rw [if_neg (by omega)] at g b
        exact nm_e (tj_y67 hf (by omega) hK b g)
      · have nb : ¬ ((tj_ps Q x i >>> (nI i &&& 31)) &&& 1 = 1) := fun y => by rw [(tj_cd _ (by omega)).mp y] at z; cases z
        rw [z] at g
        unfold wY_cone_67
        exact br_f nb (nm_r (nI_1 i) g)
theorem tj_cone_r (hw : tj_W Q) (hf : tj_FS Q fs ss) : ∀ m x y, 4294967296 ≤ x.toBitVec.toNat + m →
    ∃ r, ∀ n, m + 1 ≤ n → (∀ post : Int32 → Prop, post r → wX_cone_16 post (nI (tj_cc Q)) kn il fl (tj_lo Q) (tj_aK Q) (tj_aF Q) (tj_aS Q) (tj_aI Q) (tj_aM Q) (tj_aP Q) (tj_aD Q) (tj_aG Q) mz mo n x y) ∧ (∀ post : Int32 → Prop, post r → wY_cone_16 post (nI (tj_cc Q)) (tj_lo Q) (tj_aK Q) fs ss (tj_aI Q) (tj_aM Q) (tj_aP Q) (tj_aD Q) (tj_aG Q) my kp n x y) := by
  intro m
  induction m with
  | zero =>
    intro x y h
    have := x.toBitVec.isLt
    omega
  | succ m ih =>
    intro x y h
    by_cases e : x = y
    · refine ⟨x, fun n hn => ?_⟩
      cases n with
      | zero => omega
      | succ n => exact ⟨fun post hp => br_t e hp, fun post hp => br_t e hp⟩
    by_cases e' : tj_ps Q x (tj_cc Q) = x
    · refine ⟨x, fun n hn => ?_⟩
      cases n with
      | zero => omega
      | succ n =>
        cases n with
        | zero => omega
        | succ n =>
          refine ⟨fun post hp => br_f e (Exists.intro (tj_cc Q + 1) (tj_x26 hw ?_ (tj_cc Q + 1) 0 (by omega) (by omega))), fun post hp => br_f e (Exists.intro (tj_cc Q + 1) (tj_y26 hw hf ?_ (tj_cc Q + 1) 0 (by omega) (by omega)))⟩
          · rw [e']
            exact br_t rfl hp
          · rw [e']
            exact br_t rfl hp
    · have l := tj_ps_le Q x (tj_cc Q)
      have d : x.toBitVec.toNat ≠ (tj_ps Q x (tj_cc Q)).toBitVec.toNat := fun z => e' (Int32.toBitVec_inj.mp (BitVec.eq_of_toNat_eq z.symm))
      obtain ⟨r, hr⟩ := ih (tj_ps Q x (tj_cc Q)) x (by omega)
      refine ⟨r, fun n hn => ?_⟩
      cases n with
      | zero => omega
      | succ n =>
        obtain ⟨hX, hY⟩ := hr n (by omega)
        exact ⟨fun post hp => br_f e (Exists.intro (tj_cc Q + 1) (tj_x26 hw (hX post hp) (tj_cc Q + 1) 0 (by omega) (by omega))), fun post hp => br_f e (Exists.intro (tj_cc Q + 1) (tj_y26 hw hf (hY post hp) (tj_cc Q + 1) 0 (by omega) (by omega)))⟩
end
theorem tj_cone_e {Q : tj_C} {kn : Int32} {il fl : Int64} {mz mo : Nat → Int64} {fs ss my kp : Nat → Int32} (hw : tj_W Q) (hf : tj_FS Q fs ss) (x y : Int32) :
    ∃ r n, (∀ post : Int32 → Prop, post r → wX_cone_16 post (nI (tj_cc Q)) kn il fl (tj_lo Q) (tj_aK Q) (tj_aF Q) (tj_aS Q) (tj_aI Q) (tj_aM Q) (tj_aP Q) (tj_aD Q) (tj_aG Q) mz mo n x y) ∧ (∀ post : Int32 → Prop, post r → wY_cone_16 post (nI (tj_cc Q)) (tj_lo Q) (tj_aK Q) fs ss (tj_aI Q) (tj_aM Q) (tj_aP Q) (tj_aD Q) (tj_aG Q) my kp n x y) := by
  obtain ⟨r, h⟩ := tj_cone_r (kn := kn) (il := il) (fl := fl) (mz := mz) (mo := mo) (my := my) (kp := kp) hw hf 4294967296 x y (by omega)
  exact ⟨r, _, h _ (Nat.le_refl _)⟩
theorem i_vc_cone {k : Nat} {u : SX} {v : SY} (I : i_Rel k u v) (hk : k + 6 ≤ 3072) (v1 : Int32) : wpX_cone (fun r => wpY_cone (fun r' => r' = r ∧ i_Rel (k + 6) u v) v v1) u v1 := by
  have I' := I
  obtain ⟨Q, kn, il, fl, mz, mo, fs, ss, my, kp, rfl, rfl, hw, hl, hf, hg⟩ := I
  have hc := hw.1.1
  have I2 : i_Rel (k + 6) (tj_X Q kn il fl mz mo) (tj_Y Q fs ss my kp) := I'
  generalize hu : i_Rel (k + 6) (tj_X Q kn il fl mz mo) (tj_Y Q fs ss my kp) = P at I2 ⊢
  unfold wpX_cone tj_X wpY_cone tj_Y
  dsimp only
  rcases tj_args' Q hc v1 with q | ⟨i, hi, rfl⟩
  · exact tj_xnn1 hc q (br_f (by decide) (tj_ynn1 hc q (br_f (by decide) ⟨rfl, I2⟩)))
  · obtain ⟨r, n, hX, hY⟩ := tj_cone_e (kn := kn) (il := il) (fl := fl) (mz := mz) (mo := mo) (my := my) (kp := kp) hw hf ((1 : Int32) <<< (nI i &&& 31)) 0
    exact tj_xnn0 hc hi (br_t rfl (nm_e ⟨n, hX _ (tj_ynn0 hc hi (br_t rfl (nm_e ⟨n, hY _ ⟨rfl, I2⟩⟩)))⟩))
end
