section
/-! rows pasted from kit/rows (starting text) -/
theorem pk_us {f : Nat → Int32} {k : Nat} {x : Int32} : upd f k x k = x := if_pos rfl
theorem pk_un {f : Nat → Int32} {k j : Nat} {x : Int32} (h : j ≠ k) : upd f k x j = f j := if_neg h
theorem pk_uLs {f : Nat → Int64} {k : Nat} {x : Int64} : vp_updL f k x k = x := if_pos rfl
theorem pk_uLn {f : Nat → Int64} {k j : Nat} {x : Int64} (h : j ≠ k) : vp_updL f k x j = f j := if_neg h
theorem pk_sub {a b : Nat} (h : b ≤ a) : nI a - nI b = nI (a - b) := by
  obtain ⟨c, rfl⟩ : ∃ c, a = c + b := ⟨a - b, by omega⟩
  rw [← nI_add, Int32.add_sub_cancel, Nat.add_sub_cancel]
theorem pk_m1 (n : Nat) : nI (n + 1) + (-1) = nI n := by
  rw [← nI_1, Int32.add_assoc, show (1 : Int32) + (-1) = 0 from rfl, Int32.add_zero]
theorem pk_mul (a b : Nat) : nI a * nI b = nI (a * b) := (Int32.ofNat_mul a b).symm
theorem pk_div {a d : Nat} (ha : a < 2 ^ 31) (h0 : 0 < d) (hd : d < 2 ^ 31) : nI a / nI d = nI (a / d) := by
  apply Int32.toInt_inj.mp
  rw [lg_idiv_nonneg (by rw [nI_toInt ha]; omega) (by rw [nI_toInt hd]; omega), nI_toInt ha, nI_toInt hd, nI_toInt (Nat.lt_of_le_of_lt (Nat.div_le_self a d) ha)]
  first | rfl | exact (Int.natCast_ediv _ _).symm
theorem pk_rem {a d : Nat} (ha : a < 2 ^ 31) (h0 : 0 < d) (hd : d < 2 ^ 31) : nI a - nI a / nI d * nI d = nI (a % d) := by
  rw [pk_div ha h0 hd, pk_mul, pk_sub (Nat.div_mul_le_self a d)]
  exact congrArg nI (by have := Nat.div_add_mod' a d; omega)
theorem pk_sub_toInt {a b : Nat} (ha : a < 2 ^ 30) (hb : b < 2 ^ 30) : (nI a - nI b).toInt = (a : Int) - b := by
  rw [Int32.toInt_sub, nI_toInt (by omega), nI_toInt (by omega)]
  exact Int.bmod_eq_of_le (by omega) (by omega)
theorem pk_sneg {a b : Nat} (hb : b < 2 ^ 30) (h : a < b) : nI a - nI b < 0 := by
  rw [Int32.lt_iff_toInt_lt, pk_sub_toInt (by omega) hb, show (0 : Int32).toInt = 0 from by decide]
  omega
theorem pk_ix (x : Int32) {n : Nat} (hn : n < 2 ^ 31) : x < 0 ∨ nI n ≤ x ∨ ∃ j : Nat, j < n ∧ x = nI j := by
  by_cases h : x < 0
  · exact Or.inl h
  · obtain ⟨j, hj, rfl⟩ := nI_of h
    by_cases h2 : j < n
    · exact Or.inr (Or.inr ⟨j, h2, rfl⟩)
    · exact Or.inr (Or.inl (nI_le (by omega) hj))
theorem pk_le {x y : Int32} {A B : Prop} (a b : Nat) (f : a ≤ b → A) (g : b < a → B) (hx : x = nI a := by rfl) (hy : y = nI b := by rfl) (ha : a < 2 ^ 31 := by omega) (hb : b < 2 ^ 31 := by omega) : (x ≤ y → A) ∧ (¬ x ≤ y → B) := by
  subst hx hy
  rw [nI_leI ha hb]
  exact ⟨f, fun z => g (by omega)⟩
theorem pk_lt {x y : Int32} {A B : Prop} (a b : Nat) (f : a < b → A) (g : b ≤ a → B) (hx : x = nI a := by rfl) (hy : y = nI b := by rfl) (ha : a < 2 ^ 31 := by omega) (hb : b < 2 ^ 31 := by omega) : (x < y → A) ∧ (¬ x < y → B) := by
  subst hx hy
  rw [nI_ltI ha hb]
  exact ⟨f, fun z => g (by omega)⟩
theorem pk_eq {x y : Int32} {A B : Prop} (a b : Nat) (f : a = b → A) (g : a ≠ b → B) (hx : x = nI a := by rfl) (hy : y = nI b := by rfl) (ha : a < 2 ^ 31 := by omega) (hb : b < 2 ^ 31 := by omega) : (x = y → A) ∧ (¬ x = y → B) := by
  subst hx hy
  rw [nI_eq ha hb]
  exact ⟨f, g⟩
theorem pk_in {x : Int32} (n N : Nat) (h : n < N) (hx : x = nI n := by rfl) (hN : N < 2 ^ 31 := by omega) : vp_in x N := by
  subst hx
  exact vp_in_nI h hN
theorem pk_cl {x : Int32} (n : Nat) (hx : x = nI n := by rfl) (h : n < 2 ^ 31 := by omega) : x.toNatClampNeg = n := by
  subst hx
  exact nI_clamp h
theorem pk_tn {n : Nat} (h : n < 2 ^ 32) : (nI n).toBitVec.toNat = n := Nat.mod_eq_of_lt h
theorem pk_and (x : Int32) {m : Int32} (k : Nat) (hm : m.toBitVec.toNat = 2 ^ k - 1) : x &&& m = nI (x.toBitVec.toNat % 2 ^ k) := by
  apply Int32.toBitVec_inj.mp
  apply BitVec.eq_of_toNat_eq
  rw [Int32.toBitVec_and, BitVec.toNat_and, hm, Nat.and_two_pow_sub_one_eq_mod]
  show _ = (BitVec.ofNat 32 _).toNat
  rw [BitVec.toNat_ofNat]
  exact (Nat.mod_eq_of_lt (Nat.lt_of_le_of_lt (Nat.mod_le _ _) x.toBitVec.isLt)).symm
theorem pk_andN {n : Nat} (h : n < 2 ^ 32) {m : Int32} (k : Nat) (hm : m.toBitVec.toNat = 2 ^ k - 1) : nI n &&& m = nI (n % 2 ^ k) := by
  rw [pk_and _ k hm, pk_tn h]
theorem pk_andE (x : Int32) {m : Int32} (k : Nat) (hm : m.toBitVec.toNat = 2 ^ k - 1) : ∃ j : Nat, j < 2 ^ k ∧ x &&& m = nI j := ⟨_, Nat.mod_lt _ (Nat.two_pow_pos k), pk_and x k hm⟩
theorem pk_andIn (x : Int32) {m : Int32} (k : Nat) (hm : m.toBitVec.toNat = 2 ^ k - 1) (hk : k ≤ 30) : vp_in (x &&& m) (2 ^ k) := by
  obtain ⟨j, hj, e⟩ := pk_andE x k hm
  rw [e]
  exact vp_in_nI hj (Nat.lt_of_le_of_lt (Nat.pow_le_pow_right (by decide) hk) (by decide))
theorem pk_shl (a s : Int32) (k : Nat) (hs : (s.toBitVec.smod 32).toNat = k) : (a <<< s).toBitVec.toNat = a.toBitVec.toNat * 2 ^ k % 2 ^ 32 := by
  show (a.toBitVec <<< (s.toBitVec.smod 32).toNat).toNat = _
  rw [hs, BitVec.toNat_shiftLeft, Nat.shiftLeft_eq]
theorem pk_shlN {n : Nat} (s : Int32) (k : Nat) (hs : (s.toBitVec.smod 32).toNat = k) (h : n * 2 ^ k < 2 ^ 32) : nI n <<< s = nI (n * 2 ^ k) := by
  apply Int32.toBitVec_inj.mp
  apply BitVec.eq_of_toNat_eq
  have hn : n < 2 ^ 32 := Nat.lt_of_le_of_lt (Nat.le_mul_of_pos_right n (Nat.two_pow_pos k)) h
  rw [pk_shl _ _ k hs, pk_tn hn, pk_tn h, Nat.mod_eq_of_lt h]
theorem pk_shr (a s : Int32) (k : Nat) (hs : (s.toBitVec.smod 32).toNat = k) : (a >>> s).toInt = a.toInt >>> k := by
  show (a.toBitVec.sshiftRight (s.toBitVec.smod 32).toNat).toInt = _
  rw [hs, BitVec.toInt_sshiftRight]
  rfl
theorem pk_shrN {n : Nat} (h : n < 2 ^ 31) (s : Int32) (k : Nat) (hs : (s.toBitVec.smod 32).toNat = k) : nI n >>> s = nI (n / 2 ^ k) := by
  apply Int32.toInt_inj.mp
  have h2 : n / 2 ^ k ≤ n := Nat.div_le_self _ _
  rw [pk_shr _ _ k hs, nI_toInt h, nI_toInt (by omega), Int.shiftRight_eq_div_pow]
  rfl
theorem pk_ushr (x s : Int32) (k : Nat) (hs : ((s.toUInt32 &&& Int32.toUInt32 31).toBitVec % 32).toNat = k) : (x.toUInt32 >>> (s.toUInt32 &&& Int32.toUInt32 31)).toInt32.toBitVec.toNat = x.toBitVec.toNat / 2 ^ k := by
  have e : (x.toUInt32 >>> (s.toUInt32 &&& Int32.toUInt32 31)).toInt32.toBitVec = x.toBitVec >>> k := by
    rw [← hs]
    exact UInt32.toBitVec_shiftRight _ _
  rw [e, BitVec.toNat_ushiftRight, Nat.shiftRight_eq_div_pow]
theorem pk_ushrN {n : Nat} (hn : n < 2 ^ 32) (s : Int32) (k : Nat) (hs : ((s.toUInt32 &&& Int32.toUInt32 31).toBitVec % 32).toNat = k) : ((nI n).toUInt32 >>> (s.toUInt32 &&& Int32.toUInt32 31)).toInt32 = nI (n / 2 ^ k) := by
  apply Int32.toBitVec_inj.mp
  apply BitVec.eq_of_toNat_eq
  rw [pk_ushr _ s k hs, pk_tn hn, pk_tn (Nat.lt_of_le_of_lt (Nat.div_le_self _ _) hn)]
theorem pk_lT {n : Nat} (h : n < 2 ^ 63) : (lN n).toInt = (n : Int) := lg_ofNat_toInt h
theorem pk_lLT {a b : Nat} (ha : a < 2 ^ 63) (hb : b < 2 ^ 63) : lN a < lN b ↔ a < b := by
  rw [Int64.lt_iff_toInt_lt, pk_lT ha, pk_lT hb]; omega
theorem pk_lLE {a b : Nat} (ha : a < 2 ^ 63) (hb : b < 2 ^ 63) : lN a ≤ lN b ↔ a ≤ b := by
  rw [Int64.le_iff_toInt_le, pk_lT ha, pk_lT hb]; omega
theorem pk_lEQ {a b : Nat} (ha : a < 2 ^ 63) (hb : b < 2 ^ 63) : lN a = lN b ↔ a = b := by
  rw [← Int64.toInt_inj, pk_lT ha, pk_lT hb]; omega
theorem pk_least (P : Nat → Prop) (h : ∃ k, P k) : ∃ k, P k ∧ ∀ j, j < k → ¬ P j := by
  obtain ⟨k, hk⟩ := h
  induction k using Nat.strongRecOn with
  | ind k ih =>
    by_cases e : ∃ j, j < k ∧ P j
    · obtain ⟨j, hj, pj⟩ := e
      exact ih j hj pj
    · exact ⟨k, hk, fun j hj pj => e ⟨j, hj, pj⟩⟩
def bt (x : Int32) (i : Nat) : Bool := x.toBitVec.getLsbD i
theorem b_ext {x y : Int32} (h : ∀ i, i < 32 → bt x i = bt y i) : x = y := Int32.toBitVec_inj.mp (BitVec.eq_of_getLsbD_eq (fun i hi => h i hi))
theorem b_or (x y : Int32) (i : Nat) : bt (x ||| y) i = (bt x i || bt y i) := by unfold bt; rw [Int32.toBitVec_or, BitVec.getLsbD_or]
theorem b_and (x y : Int32) (i : Nat) : bt (x &&& y) i = (bt x i && bt y i) := by unfold bt; rw [Int32.toBitVec_and, BitVec.getLsbD_and]
theorem b_xor (x y : Int32) (i : Nat) : bt (x ^^^ y) i = (bt x i ^^ bt y i) := by unfold bt; rw [Int32.toBitVec_xor, BitVec.getLsbD_xor]
theorem b_big {x : Int32} {i : Nat} (h : 32 ≤ i) : bt x i = false := BitVec.getLsbD_of_ge _ _ h
theorem b_255 (i : Nat) : bt 255 i = decide (i < 8) := by
  rcases Nat.lt_or_ge i 32 with h | h
  · exact (by decide +kernel : ∀ i, i < 32 → bt 255 i = decide (i < 8)) i h
  · rw [b_big h, decide_eq_false (by omega)]
theorem b_65535 (i : Nat) : bt 65535 i = decide (i < 16) := by
  rcases Nat.lt_or_ge i 32 with h | h
  · exact (by decide +kernel : ∀ i, i < 32 → bt 65535 i = decide (i < 16)) i h
  · rw [b_big h, decide_eq_false (by omega)]
theorem b_m1 : ∀ i, i < 32 → bt (-1) i = true := by decide +kernel
theorem b_0 (i : Nat) : bt 0 i = false := BitVec.getLsbD_zero
theorem s_l : ∀ n, n < 32 → ((nI n &&& 31).toBitVec.smod 32).toNat = n := by decide +kernel
theorem s_u : ∀ n, n < 32 → (((nI n).toUInt32 &&& Int32.toUInt32 31).toBitVec % 32).toNat = n := by decide +kernel
theorem b_shl (n : Nat) (hn : n < 32) (x : Int32) {i : Nat} (hi : i < 32) : bt (x <<< (nI n &&& 31)) i = (decide (n ≤ i) && bt x (i - n)) := by
  unfold bt
  rw [Int32.toBitVec_shiftLeft]
  show (x.toBitVec <<< ((nI n &&& 31).toBitVec.smod 32).toNat).getLsbD i = _
  rw [s_l n hn, BitVec.getLsbD_shiftLeft]
  rcases Nat.lt_or_ge i n with h | h
  · simp [h, Nat.not_le.mpr h]
  · simp [hi, h, Nat.not_lt.mpr h]
theorem b_ushr (n : Nat) (hn : n < 32) (x : Int32) (i : Nat) : bt ((x.toUInt32 >>> ((nI n).toUInt32 &&& Int32.toUInt32 31)).toInt32) i = bt x (n + i) := by
  show (x.toUInt32 >>> ((nI n).toUInt32 &&& Int32.toUInt32 31)).toBitVec.getLsbD i = x.toUInt32.toBitVec.getLsbD (n + i)
  rw [UInt32.toBitVec_shiftRight]
  show (x.toUInt32.toBitVec >>> (((nI n).toUInt32 &&& Int32.toUInt32 31).toBitVec % 32).toNat).getLsbD i = _
  rw [s_u n hn, BitVec.getLsbD_ushiftRight]
theorem b_sshr (n : Nat) (hn : n < 32) (x : Int32) {i : Nat} (hi : i < 32) : bt (x >>> (nI n &&& 31)) i = if n + i < 32 then bt x (n + i) else bt x 31 := by
  unfold bt
  rw [Int32.toBitVec_shiftRight]
  show (x.toBitVec.sshiftRight ((nI n &&& 31).toBitVec.smod 32).toNat).getLsbD i = _
  rw [s_l n hn, BitVec.getLsbD_sshiftRight, BitVec.msb_eq_getLsbD_last]
  simp [hi]
theorem b_shl8 (x : Int32) {i : Nat} (hi : i < 32) : bt (x <<< ((8 : Int32) &&& 31)) i = (decide (8 ≤ i) && bt x (i - 8)) := b_shl 8 (by omega) x hi
theorem b_shl16 (x : Int32) {i : Nat} (hi : i < 32) : bt (x <<< ((16 : Int32) &&& 31)) i = (decide (16 ≤ i) && bt x (i - 16)) := b_shl 16 (by omega) x hi
theorem b_shl24 (x : Int32) {i : Nat} (hi : i < 32) : bt (x <<< ((24 : Int32) &&& 31)) i = (decide (24 ≤ i) && bt x (i - 24)) := b_shl 24 (by omega) x hi
theorem b_sshr8 (x : Int32) {i : Nat} (hi : i < 32) : bt (x >>> ((8 : Int32) &&& 31)) i = if 8 + i < 32 then bt x (8 + i) else bt x 31 := b_sshr 8 (by omega) x hi
/-! ===== nI under and, xor, >>>, one bit, 65535 ===== -/
theorem nx_and (a b : Nat) : nI a &&& nI b = nI (a &&& b) := by
  apply Int32.toBitVec_inj.1
  show BitVec.ofNat 32 a &&& BitVec.ofNat 32 b = BitVec.ofNat 32 (a &&& b)
  apply BitVec.eq_of_getLsbD_eq
  intro i hi
  simp [hi]
theorem nx_xor (a b : Nat) : nI a ^^^ nI b = nI (a ^^^ b) := by
  apply Int32.toBitVec_inj.1
  show BitVec.ofNat 32 a ^^^ BitVec.ofNat 32 b = BitVec.ofNat 32 (a ^^^ b)
  apply BitVec.eq_of_getLsbD_eq
  intro i hi
  simp [hi]
theorem wb_tb (n : Nat) : (lN n).toBitVec = BitVec.ofNat 64 n := rfl
theorem wb_inj {a b : Int64} (h : a.toBitVec = b.toBitVec) : a = b := Int64.toBitVec_inj.mp h
theorem wb_tn {n : Nat} (h : n < 2 ^ 64) : (lN n).toBitVec.toNat = n := by rw [wb_tb, BitVec.toNat_ofNat, Nat.mod_eq_of_lt h]
theorem wb_of (x : Int64) : ∃ n, n < 2 ^ 64 ∧ x = lN n := ⟨x.toBitVec.toNat, x.toBitVec.isLt, wb_inj (by rw [wb_tb]; simp)⟩
theorem wb_of32 (x : Int32) : ∃ n, n < 2 ^ 32 ∧ x = nI n := ⟨x.toBitVec.toNat, x.toBitVec.isLt, Int32.toBitVec_inj.mp (by show _ = BitVec.ofNat 32 _; simp)⟩
theorem wb_c : ∀ k, k < 64 → ((nI k).toInt64 &&& 63) = lN k := by decide +kernel
theorem wb_cu : ∀ k, k < 64 → ((nI k).toInt64.toUInt64 &&& Int64.toUInt64 63) = UInt64.ofNat k := by decide +kernel
theorem wb_sm : ∀ k, k < 64 → (BitVec.ofNat 64 k).smod 64 = BitVec.ofNat 64 k := by decide +kernel
theorem wb_pw {a b : Nat} (h : a ≤ b) : 2 ^ b = 2 ^ a * 2 ^ (b - a) := by rw [← Nat.pow_add]; congr 1; omega
theorem wb_lt2 {a b : Nat} (h : a < b) : 2 ^ a < 2 ^ b := Nat.pow_lt_pow_right (by decide) h
theorem wb_mod (n : Nat) : lN n = lN (n % 2 ^ 64) := wb_inj (by rw [wb_tb, wb_tb]; apply BitVec.eq_of_toNat_eq; rw [BitVec.toNat_ofNat, BitVec.toNat_ofNat, Nat.mod_mod])
theorem wb_shr {n k : Nat} (hn : n < 2 ^ 64) (hk : k < 64) : ((lN n).toUInt64 >>> ((nI k).toInt64.toUInt64 &&& Int64.toUInt64 63)).toInt64 = lN (n / 2 ^ k) := by
  rw [wb_cu k hk]
  apply wb_inj
  apply BitVec.eq_of_toNat_eq
  show ((lN n).toUInt64 >>> UInt64.ofNat k).toNat = (BitVec.ofNat 64 _).toNat
  have h1 : (UInt64.ofNat k).toNat = k := by
    show (BitVec.ofNat 64 k).toNat = k
    rw [BitVec.toNat_ofNat, Nat.mod_eq_of_lt (by omega)]
  have h2 : (lN n).toUInt64.toNat = n := wb_tn hn
  rw [UInt64.toNat_shiftRight, h1, h2, Nat.mod_eq_of_lt hk, Nat.shiftRight_eq_div_pow, BitVec.toNat_ofNat, Nat.mod_eq_of_lt (Nat.lt_of_le_of_lt (Nat.div_le_self _ _) hn)]
theorem wb_shl (n : Nat) {k : Nat} (hk : k < 64) : lN n <<< ((nI k).toInt64 &&& 63) = lN (n * 2 ^ k) := by
  rw [wb_c k hk]
  apply wb_inj
  rw [Int64.toBitVec_shiftLeft, wb_tb, wb_tb, wb_tb, wb_sm k hk]
  apply BitVec.eq_of_toNat_eq
  rw [BitVec.shiftLeft_eq', BitVec.toNat_shiftLeft, BitVec.toNat_ofNat, BitVec.toNat_ofNat, BitVec.toNat_ofNat, Nat.mod_eq_of_lt (show k < 2 ^ 64 by omega), Nat.shiftLeft_eq, Nat.mul_mod, Nat.mod_mod, ← Nat.mul_mod]
theorem wb_and {a b : Nat} (ha : a < 2 ^ 64) (hb : b < 2 ^ 64) : lN a &&& lN b = lN (a &&& b) := by
  apply wb_inj
  rw [Int64.toBitVec_and, wb_tb, wb_tb, wb_tb]
  apply BitVec.eq_of_toNat_eq
  rw [BitVec.toNat_and, BitVec.toNat_ofNat, BitVec.toNat_ofNat, BitVec.toNat_ofNat, Nat.mod_eq_of_lt ha, Nat.mod_eq_of_lt hb, Nat.mod_eq_of_lt (Nat.and_lt_two_pow _ hb)]
theorem wb_or {a b : Nat} (ha : a < 2 ^ 64) (hb : b < 2 ^ 64) : lN a ||| lN b = lN (a ||| b) := by
  apply wb_inj
  rw [Int64.toBitVec_or, wb_tb, wb_tb, wb_tb]
  apply BitVec.eq_of_toNat_eq
  rw [BitVec.toNat_or, BitVec.toNat_ofNat, BitVec.toNat_ofNat, BitVec.toNat_ofNat, Nat.mod_eq_of_lt ha, Nat.mod_eq_of_lt hb, Nat.mod_eq_of_lt (Nat.or_lt_two_pow ha hb)]
theorem u_tn {n : Nat} (h : n < 2 ^ 64) : (UInt64.ofNat n).toNat = n := Nat.mod_eq_of_lt h
theorem g_and {a b c : Nat} (ha : a < 2 ^ 64) (hb : b < 2 ^ 64) (hc : a &&& b = c) : lN a &&& lN b = lN c := by
  subst hc
  have h : UInt64.ofNat a &&& UInt64.ofNat b = UInt64.ofNat (a &&& b) := UInt64.toNat_inj.mp (by rw [UInt64.toNat_and, u_tn ha, u_tn hb, u_tn (Nat.and_lt_two_pow a hb)])
  have h2 := congrArg UInt64.toInt64 h
  exact h2
theorem g_and1 {a : Nat} (ha : a < 2 ^ 64) : lN a &&& 1 = lN (a % 2) := g_and (b := 1) ha (by decide) (Nat.and_two_pow_sub_one_eq_mod a 1)
theorem g_mask {a s p : Nat} (hp : 2 ^ s = p) (hs : s < 64) (ha : a < 2 ^ 64) : lN a &&& lN (p - 1) = lN (a % p) := by
  subst hp
  have := Nat.pow_lt_pow_right (show 1 < 2 by decide) hs
  exact g_and ha (by omega) (Nat.and_two_pow_sub_one_eq_mod a s)
theorem g_or {k p a b : Nat} (hp : 2 ^ k = p) (ha : a < p) (h : b * p + a < 2 ^ 64) : lN (b * p) ||| lN a = lN (b * p + a) := by
  subst hp
  have h1 : b * 2 ^ k ||| a = b * 2 ^ k + a := by rw [← Nat.shiftLeft_eq, Nat.shiftLeft_add_eq_or_of_lt ha]
  have h3 : UInt64.ofNat (b * 2 ^ k) ||| UInt64.ofNat a = UInt64.ofNat (b * 2 ^ k + a) := UInt64.toNat_inj.mp (by rw [UInt64.toNat_or, u_tn (by omega), u_tn (by omega), u_tn h, h1])
  have h2 := congrArg UInt64.toInt64 h3
  exact h2
theorem g_or' {k p a b : Nat} (hp : 2 ^ k = p) (ha : a < p) (h : a + b * p < 2 ^ 64) : lN a ||| lN (b * p) = lN (a + b * p) := by
  rw [Int64.or_comm, g_or hp ha (by omega), Nat.add_comm]
end
section
/-! lanes of three bits, digits of eight, sets as bits -/
def hr_ln (x : Int32) (i : Nat) : Nat := x.toBitVec.toNat / 8 ^ i % 8
theorem hr_ln_lt (x : Int32) (i : Nat) : hr_ln x i < 8 := Nat.mod_lt _ (by decide)
theorem hr_nI (x : Int32) : x = nI x.toBitVec.toNat := Int32.toBitVec_inj.mp (by show x.toBitVec = BitVec.ofNat 32 _; simp)
theorem hr_ln_nI {a : Nat} (h : a < 2 ^ 32) (i : Nat) : hr_ln (nI a) i = a / 8 ^ i % 8 := by unfold hr_ln; rw [pk_tn h]
def hr_dg (f : Nat → Nat) : Nat → Nat
  | 0 => 0
  | n + 1 => hr_dg f n + f n * 8 ^ n
theorem hr_dg_lt (f : Nat → Nat) (hf : ∀ i, f i < 8) : ∀ n, hr_dg f n < 8 ^ n := by
  intro n
  induction n with
  | zero => exact Nat.one_pos
  | succ n ih =>
    show hr_dg f n + f n * 8 ^ n < 8 ^ (n + 1)
    have h2 : f n * 8 ^ n ≤ 7 * 8 ^ n := Nat.mul_le_mul_right _ (by have := hf n; omega)
    rw [Nat.pow_succ]
    omega
theorem hr_dg_ln (f : Nat → Nat) (hf : ∀ i, f i < 8) : ∀ n i, i < n → hr_dg f n / 8 ^ i % 8 = f i := by
  intro n
  induction n with
  | zero => intro i hi; omega
  | succ n ih =>
    intro i hi
    show (hr_dg f n + f n * 8 ^ n) / 8 ^ i % 8 = f i
    have hp : 0 < 8 ^ i := Nat.pow_pos (by decide)
    by_cases h : i = n
    · subst h
      rw [Nat.mul_comm, Nat.add_mul_div_left _ _ hp, Nat.div_eq_of_lt (hr_dg_lt f hf i), Nat.zero_add]
      exact Nat.mod_eq_of_lt (hf i)
    · obtain ⟨m, rfl⟩ : ∃ m, n = i + 1 + m := ⟨n - i - 1, by omega⟩
      have e : f (i + 1 + m) * 8 ^ (i + 1 + m) = 8 ^ i * (8 * (f (i + 1 + m) * 8 ^ m)) := by
        rw [Nat.pow_add, Nat.pow_succ]
        generalize 8 ^ i = p
        generalize 8 ^ m = q
        generalize f (i + 1 + m) = c
        rw [Nat.mul_left_comm, Nat.mul_assoc, Nat.mul_left_comm 8 c q]
        
      rw [e, Nat.add_mul_div_left _ _ hp, Nat.add_mul_mod_self_left]
      exact ih i (by omega)
theorem hr_dg_congr {f g : Nat → Nat} : ∀ n, (∀ i, i < n → f i = g i) → hr_dg f n = hr_dg g n := by
  intro n
  induction n with
  | zero => intro _; rfl
  | succ n ih =>
    intro h
    show hr_dg f n + f n * 8 ^ n = hr_dg g n + g n * 8 ^ n
    rw [ih (fun i hi => h i (by omega)), h n (by omega)]
theorem hr_dg_mod (a : Nat) : ∀ n, a % 8 ^ n = hr_dg (fun i => a / 8 ^ i % 8) n := by
  intro n
  induction n with
  | zero => exact Nat.mod_one a
  | succ n ih =>
    show a % 8 ^ (n + 1) = hr_dg (fun i => a / 8 ^ i % 8) n + a / 8 ^ n % 8 * 8 ^ n
    rw [Nat.pow_succ, Nat.mod_mul, ih, Nat.mul_comm (8 ^ n)]
theorem hr_low {x y : Int32} (n : Nat) (h : ∀ i, i < n → hr_ln x i = hr_ln y i) : x.toBitVec.toNat % 8 ^ n = y.toBitVec.toNat % 8 ^ n := by
  rw [hr_dg_mod, hr_dg_mod]
  exact hr_dg_congr n h
theorem hr_low' {x y : Int32} (n : Nat) (h : x.toBitVec.toNat % 8 ^ n = y.toBitVec.toNat % 8 ^ n) : ∀ i, i < n → hr_ln x i = hr_ln y i := by
  intro i hi
  rw [hr_dg_mod, hr_dg_mod] at h
  have a := hr_dg_ln (fun i => x.toBitVec.toNat / 8 ^ i % 8) (fun _ => Nat.mod_lt _ (by decide)) n i hi
  have b := hr_dg_ln (fun i => y.toBitVec.toNat / 8 ^ i % 8) (fun _ => Nat.mod_lt _ (by decide)) n i hi
  rw [h] at a
  exact a.symm.trans b
theorem hr_ext {x y : Int32} (hx : x.toBitVec.toNat < 2 ^ 24) (hy : y.toBitVec.toNat < 2 ^ 24) (h : ∀ i, i < 8 → hr_ln x i = hr_ln y i) : x = y := by
  have e := hr_low 8 h
  rw [Nat.mod_eq_of_lt (show _ < 8 ^ 8 by omega), Nat.mod_eq_of_lt (show _ < 8 ^ 8 by omega)] at e
  exact Int32.toBitVec_inj.mp (BitVec.eq_of_toNat_eq e)
def hr_mk (f : Nat → Nat) : Int32 := nI (hr_dg f 8)
theorem hr_mk_lt {f : Nat → Nat} (hf : ∀ i, f i < 8) : (hr_mk f).toBitVec.toNat < 2 ^ 24 := by
  have h := hr_dg_lt f hf 8
  have e : (8 : Nat) ^ 8 = 2 ^ 24 := by decide
  unfold hr_mk
  rw [pk_tn (by omega)]
  omega
theorem hr_mk_ln {f : Nat → Nat} (hf : ∀ i, f i < 8) {i : Nat} (hi : i < 8) : hr_ln (hr_mk f) i = f i := by
  have h := hr_dg_lt f hf 8
  have e : (8 : Nat) ^ 8 = 2 ^ 24 := by decide
  unfold hr_mk
  rw [hr_ln_nI (by omega), hr_dg_ln f hf 8 i hi]
theorem hr_mk_eq {f : Nat → Nat} (hf : ∀ i, f i < 8) {x : Int32} (hx : x.toBitVec.toNat < 2 ^ 24) (h : ∀ i, i < 8 → hr_ln x i = f i) : x = hr_mk f :=
  hr_ext hx (hr_mk_lt hf) (fun i hi => (h i hi).trans (hr_mk_ln hf hi).symm)
theorem hr_ln0 (i : Nat) : hr_ln 0 i = 0 := by
  show (0 : Nat) / 8 ^ i % 8 = 0
  rw [Nat.zero_div]
/-- the union: the greater value in each lane -/
def hr_mg (x y : Int32) : Int32 := hr_mk (fun i => max (hr_ln x i) (hr_ln y i))
theorem hr_mg_f (x y : Int32) : ∀ i, max (hr_ln x i) (hr_ln y i) < 8 := by
  intro i
  have := hr_ln_lt x i
  have := hr_ln_lt y i
  omega
theorem hr_mg_lt (x y : Int32) : (hr_mg x y).toBitVec.toNat < 2 ^ 24 := hr_mk_lt (hr_mg_f x y)
theorem hr_mg_ln (x y : Int32) {i : Nat} (hi : i < 8) : hr_ln (hr_mg x y) i = max (hr_ln x i) (hr_ln y i) := hr_mk_ln (hr_mg_f x y) hi
theorem hr_mg_self {x : Int32} (hx : x.toBitVec.toNat < 2 ^ 24) : hr_mg x x = x := by
  refine (hr_mk_eq (hr_mg_f x x) hx ?_).symm
  intro i _
  omega
/-- the bits of a set: dot 8 w + o is in it when 1 ≤ o ≤ lane w -/
def hr_ib (x : Int32) (d : Nat) : Bool := decide (1 ≤ d % 8) && decide (d % 8 ≤ hr_ln x (d / 8))
theorem hr_ib_iff {x : Int32} {d : Nat} : hr_ib x d = true ↔ 1 ≤ d % 8 ∧ d % 8 ≤ hr_ln x (d / 8) := by
  unfold hr_ib
  rw [Bool.and_eq_true, decide_eq_true_eq, decide_eq_true_eq]
def hr_tb (c : Nat) : Nat := 2 ^ (c + 1) - 2
theorem hr_tb_lt : ∀ c, c < 8 → hr_tb c < 256 := by decide +kernel
theorem hr_tb_bit : ∀ c, c < 8 → ∀ o, o < 8 → (hr_tb c).testBit o = (decide (1 ≤ o) && decide (o ≤ c)) := by decide +kernel
def hr_bn (x : Int32) : Nat := 2 ^ 8 * (2 ^ 8 * (2 ^ 8 * hr_tb (hr_ln x 3) + hr_tb (hr_ln x 2)) + hr_tb (hr_ln x 1)) + hr_tb (hr_ln x 0)
def hr_bf (x : Int32) : Int32 := nI (hr_bn x)
theorem hr_bt_nI (n : Nat) {d : Nat} (hd : d < 32) : bt (nI n) d = n.testBit d := by
  show (BitVec.ofNat 32 n).getLsbD d = _
  rw [BitVec.getLsbD_ofNat, decide_eq_true hd, Bool.true_and]
theorem hr_bt {x : Int32} {d : Nat} (hd : d < 32) : bt (hr_bf x) d = hr_ib x d := by
  unfold hr_bf
  rw [hr_bt_nI _ hd]
  unfold hr_bn
  have l0 := hr_tb_lt _ (hr_ln_lt x 0)
  have l1 := hr_tb_lt _ (hr_ln_lt x 1)
  have l2 := hr_tb_lt _ (hr_ln_lt x 2)
  rw [Nat.testBit_two_pow_mul_add _ (show hr_tb (hr_ln x 0) < 2 ^ 8 from l0)]
  unfold hr_ib
  by_cases c0 : d < 8
  · rw [if_pos c0, hr_tb_bit _ (hr_ln_lt x 0) d c0, show d % 8 = d by omega, show d / 8 = 0 by omega]
  · rw [if_neg c0, Nat.testBit_two_pow_mul_add _ (show hr_tb (hr_ln x 1) < 2 ^ 8 from l1)]
    by_cases c1 : d - 8 < 8
    · rw [if_pos c1, hr_tb_bit _ (hr_ln_lt x 1) _ c1, show d % 8 = d - 8 by omega, show d / 8 = 1 by omega]
    · rw [if_neg c1, Nat.testBit_two_pow_mul_add _ (show hr_tb (hr_ln x 2) < 2 ^ 8 from l2)]
      by_cases c2 : d - 8 - 8 < 8
      · rw [if_pos c2, hr_tb_bit _ (hr_ln_lt x 2) _ c2, show d % 8 = d - 8 - 8 by omega, show d / 8 = 2 by omega]
      · rw [if_neg c2, hr_tb_bit _ (hr_ln_lt x 3) _ (by omega), show d % 8 = d - 8 - 8 - 8 by omega, show d / 8 = 3 by omega]
theorem hr_bf_lanes {x y : Int32} (h : hr_bf x = hr_bf y) : ∀ w, w < 4 → hr_ln x w = hr_ln y w := by
  have key : ∀ a b : Int32, hr_bf a = hr_bf b → ∀ w, w < 4 → hr_ln a w ≤ hr_ln b w := by
    intro a b hab w hw
    have la := hr_ln_lt a w
    by_cases z : hr_ln a w = 0
    · omega
    · have hd : 8 * w + hr_ln a w < 32 := by omega
      have e1 : (8 * w + hr_ln a w) % 8 = hr_ln a w := by omega
      have e2 : (8 * w + hr_ln a w) / 8 = w := by omega
      have i1 : hr_ib a (8 * w + hr_ln a w) = true := by
        rw [hr_ib_iff, e1, e2]; omega
      rw [← hr_bt hd, hab, hr_bt hd, hr_ib_iff, e1, e2] at i1
      exact i1.2
  intro w hw
  have a := key x y h w hw
  have b := key y x h.symm w hw
  omega
theorem hr_bf_congr {x y : Int32} (h : ∀ w, w < 4 → hr_ln x w = hr_ln y w) : hr_bf x = hr_bf y := by
  unfold hr_bf hr_bn
  rw [h 0 (by decide), h 1 (by decide), h 2 (by decide), h 3 (by decide)]
theorem hr_ib_mg {x y : Int32} {d : Nat} (hd : d < 32) : hr_ib (hr_mg x y) d = (hr_ib x d || hr_ib y d) := by
  rw [Bool.eq_iff_iff, Bool.or_eq_true, hr_ib_iff, hr_ib_iff, hr_ib_iff, hr_mg_ln x y (show d / 8 < 8 by omega)]
  omega
theorem hr_bf_or (x y : Int32) : hr_bf x ||| hr_bf y = hr_bf (hr_mg x y) := by
  apply b_ext
  intro d hd
  rw [b_or, hr_bt hd, hr_bt hd, hr_bt hd, hr_ib_mg hd]
theorem hr_bf0 : hr_bf 0 = 0 := by decide +kernel
end
section
/-! what is kept of a set; the digest tree; the arrays' bounds -/
def hr_WF (M : Nat → Nat → Nat) (wp : Nat → Int32) (k : Nat) (x : Int32) : Prop :=
  x.toBitVec.toNat < 2 ^ 24 ∧ ∀ w, w < 4 → hr_ln x w ≤ M k w ∧ hr_ln x (4 + w) ≤ hr_ln x w ∧ (∀ d, d < 32 → hr_ib x d = true → hr_ln (wp (32 * k + d)) w ≤ hr_ln x (4 + w)) ∧ (hr_ln x (4 + w) ≠ 0 → ∃ d, d < 32 ∧ hr_ib x d = true ∧ hr_ln (wp (32 * k + d)) w = hr_ln x (4 + w))
theorem hr_WF_0 (M : Nat → Nat → Nat) (wp : Nat → Int32) (k : Nat) : hr_WF M wp k 0 := by
  refine ⟨by decide, fun w hw => ⟨by rw [hr_ln0]; omega, by rw [hr_ln0, hr_ln0]; omega, fun d hd h => ?_, fun h => absurd (hr_ln0 _) h⟩⟩
  rw [hr_ib_iff, hr_ln0] at h
  omega
theorem hr_WF_mg {M : Nat → Nat → Nat} {wp : Nat → Int32} {k : Nat} {x y : Int32} (hx : hr_WF M wp k x) (hy : hr_WF M wp k y) : hr_WF M wp k (hr_mg x y) := by
  refine ⟨hr_mg_lt x y, fun w hw => ?_⟩
  obtain ⟨a1, a2, a3, a4⟩ := hx.2 w hw
  obtain ⟨b1, b2, b3, b4⟩ := hy.2 w hw
  rw [hr_mg_ln x y (show w < 8 by omega), hr_mg_ln x y (show 4 + w < 8 by omega)]
  refine ⟨by omega, by omega, fun d hd h => ?_, fun h => ?_⟩
  · rw [hr_ib_mg hd, Bool.or_eq_true] at h
    rcases h with h | h
    · have := a3 d hd h
      omega
    · have := b3 d hd h
      omega
  · by_cases c : hr_ln y (4 + w) ≤ hr_ln x (4 + w)
    · obtain ⟨d, hd, h1, h2⟩ := a4 (by omega)
      exact ⟨d, hd, by rw [hr_ib_mg hd, h1, Bool.true_or], by rw [h2]; omega⟩
    · obtain ⟨d, hd, h1, h2⟩ := b4 (by omega)
      exact ⟨d, hd, by rw [hr_ib_mg hd, h1, Bool.or_true], by rw [h2]; omega⟩
theorem hr_ib_congr {x y : Int32} (h : ∀ w, w < 4 → hr_ln x w = hr_ln y w) {d : Nat} (hd : d < 32) : hr_ib x d = hr_ib y d := by
  unfold hr_ib
  rw [h (d / 8) (by omega)]
theorem hr_WF_inj {M : Nat → Nat → Nat} {wp : Nat → Int32} {k : Nat} {x y : Int32} (hx : hr_WF M wp k x) (hy : hr_WF M wp k y) (h : ∀ w, w < 4 → hr_ln x w = hr_ln y w) : x = y := by
  have key : ∀ a b : Int32, hr_WF M wp k a → hr_WF M wp k b → (∀ w, w < 4 → hr_ln a w = hr_ln b w) → ∀ w, w < 4 → hr_ln a (4 + w) ≤ hr_ln b (4 + w) := by
    intro a b ha hb hab w hw
    obtain ⟨_, _, _, a4⟩ := ha.2 w hw
    obtain ⟨_, _, b3, _⟩ := hb.2 w hw
    by_cases z : hr_ln a (4 + w) = 0
    · omega
    · obtain ⟨d, hd, h1, h2⟩ := a4 z
      rw [hr_ib_congr hab hd] at h1
      have := b3 d hd h1
      omega
  refine hr_ext hx.1 hy.1 (fun i hi => ?_)
  by_cases c : i < 4
  · exact h i c
  · obtain ⟨w, rfl⟩ : ∃ w, i = 4 + w := ⟨i - 4, by omega⟩
    have a := key x y hx hy h w (by omega)
    have b := key y x hy hx (fun w hw => (h w hw).symm) w (by omega)
    omega
theorem hr_WF_bf {M : Nat → Nat → Nat} {wp : Nat → Int32} {k : Nat} {x y : Int32} (hx : hr_WF M wp k x) (hy : hr_WF M wp k y) (h : hr_bf x = hr_bf y) : x = y := hr_WF_inj hx hy (hr_bf_lanes h)
theorem hr_mg_comm (x y : Int32) : hr_mg x y = hr_mg y x := by
  unfold hr_mg
  exact congrArg hr_mk (funext fun i => Nat.max_comm _ _)
theorem hr_bsub (X Y : Int32) : (X &&& (Y ^^^ (-1))) = 0 ↔ X ||| Y = Y := by
  constructor
  · intro h
    apply b_ext
    intro i hi
    have e := congrArg (fun z => bt z i) h
    rw [b_and, b_xor, b_m1 i hi, b_0] at e
    rw [b_or]
    revert e
    cases bt X i <;> cases bt Y i <;> simp
  · intro h
    apply b_ext
    intro i hi
    have e := congrArg (fun z => bt z i) h
    rw [b_or] at e
    rw [b_and, b_xor, b_m1 i hi, b_0]
    revert e
    cases bt X i <;> cases bt Y i <;> simp
theorem hr_more {M : Nat → Nat → Nat} {wp : Nat → Int32} {k : Nat} {x y : Int32} (hx : hr_WF M wp k x) (hy : hr_WF M wp k y) : (hr_bf x &&& (hr_bf y ^^^ (-1))) = 0 ↔ hr_mg x y = y := by
  rw [hr_bsub, hr_bf_or]
  exact ⟨fun h => hr_WF_bf (hr_WF_mg hx hy) hy h, fun h => by rw [h]⟩
/-- Y's arrays of sets, Y's flags -/
def hr_F (a : Nat → Int32) : Nat → Int32 := fun i => hr_bf (a i)
theorem hr_F_upd (a : Nat → Int32) (j : Nat) (x : Int32) : upd (hr_F a) j (hr_bf x) = hr_F (upd a j x) := by
  funext i
  show upd (hr_F a) j (hr_bf x) i = hr_bf (upd a j x i)
  by_cases h : i = j
  · rw [h, pk_us, pk_us]
  · rw [pk_un h, pk_un h]
    rfl
def hr_B (m : Nat) : Nat → Int32 := fun r => nI (m / 2 ^ r % 2)
theorem hr_upd_same (a : Nat → Int32) (j : Nat) : upd a j (a j) = a := by
  funext i
  unfold upd
  by_cases h : i = j
  · rw [if_pos h, h]
  · rw [if_neg h]
def hr_NB (n : Nat) (a : Nat → Int32) : Prop := ∀ i, ∃ t, t < n ∧ a i = nI t
theorem hr_NB_upd {n : Nat} {a : Nat → Int32} (h : hr_NB n a) {t : Nat} (ht : t < n) (j : Nat) : hr_NB n (upd a j (nI t)) := by
  intro i
  by_cases c : i = j
  · exact ⟨t, ht, by rw [c, pk_us]⟩
  · obtain ⟨s, hs, e⟩ := h i
    exact ⟨s, hs, by rw [pk_un c, e]⟩
theorem hr_NB_mv {n : Nat} {a : Nat → Int32} (h : hr_NB n a) (j i : Nat) : hr_NB n (upd a j (a i)) := by
  obtain ⟨t, ht, e⟩ := h i
  rw [e]
  exact hr_NB_upd h ht j
theorem hr_NB_0 {n : Nat} (h : 0 < n) : hr_NB n (fun _ => 0) := fun _ => ⟨0, h, rfl⟩
def hr_KS (K : Nat) (M : Nat → Nat → Nat) (wp ka sa : Nat → Int32) : Prop := ∀ i, ∃ k, k < K ∧ ka i = nI k ∧ hr_WF M wp k (sa i)
theorem hr_KS_upd {K : Nat} {M : Nat → Nat → Nat} {wp ka sa : Nat → Int32} (h : hr_KS K M wp ka sa) {k : Nat} (hk : k < K) {x : Int32} (hx : hr_WF M wp k x) (j : Nat) : hr_KS K M wp (upd ka j (nI k)) (upd sa j x) := by
  intro i
  by_cases c : i = j
  · exact ⟨k, hk, by rw [c, pk_us], by rw [c, pk_us]; exact hx⟩
  · obtain ⟨s, hs, e, w⟩ := h i
    exact ⟨s, hs, by rw [pk_un c, e], by rw [pk_un c]; exact w⟩
theorem hr_KS_set {K : Nat} {M : Nat → Nat → Nat} {wp ka sa : Nat → Int32} (h : hr_KS K M wp ka sa) {k : Nat} (hk : k < K) {x : Int32} (hx : hr_WF M wp k x) (j : Nat) (e : ka j = nI k) : hr_KS K M wp ka (upd sa j x) := by
  have q := hr_KS_upd h hk hx j
  rw [← e, hr_upd_same] at q
  exact q
theorem hr_KS_mv {K : Nat} {M : Nat → Nat → Nat} {wp ka sa : Nat → Int32} (h : hr_KS K M wp ka sa) (j i : Nat) : hr_KS K M wp (upd ka j (ka i)) (upd sa j (sa i)) := by
  obtain ⟨k, hk, e, w⟩ := h i
  rw [e]
  exact hr_KS_upd h hk w j
theorem hr_KS_0 {K : Nat} (h : 0 < K) (M : Nat → Nat → Nat) (wp : Nat → Int32) : hr_KS K M wp (fun _ => 0) (fun _ => 0) := fun _ => ⟨0, h, rfl, hr_WF_0 _ _ _⟩
/-- the replicas' sets -/
def hr_ST (K : Nat) (M : Nat → Nat → Nat) (wp st : Nat → Int32) : Prop :=
  (∀ r, r < 4 → ∀ k, k < 8 → hr_WF M wp k (st (8 * r + k))) ∧ (∀ w, w < 4 → ∀ k, k < 8 → hr_ln (st (8 * w + k)) w = M k w) ∧ (∀ r, r < 4 → ∀ k, K ≤ k → k < 8 → st (8 * r + k) = 0)
theorem hr_ST_upd {K : Nat} {M : Nat → Nat → Nat} {wp st : Nat → Int32} (h : hr_ST K M wp st) {r k : Nat} (hr : r < 4) (hk : k < K) (hK : K ≤ 8) {x : Int32} (hx : hr_WF M wp k x) (hm : hr_ln x r = M k r) : hr_ST K M wp (upd st (8 * r + k) x) := by
  refine ⟨fun r' hr' k' hk' => ?_, fun r' hr' k' hk' => ?_, fun r' hr' k' h1 hk' => ?_⟩
  · by_cases c : 8 * r' + k' = 8 * r + k
    · have : k' = k := by omega
      subst this
      rw [c, pk_us]
      exact hx
    · rw [pk_un c]
      exact h.1 r' hr' k' hk'
  · by_cases c : 8 * r' + k' = 8 * r + k
    · have e1 : k' = k := by omega
      have e2 : r' = r := by omega
      subst e1 e2
      rw [pk_us]
      exact hm
    · rw [pk_un c]
      exact h.2.1 r' hr' k' hk'
  · rw [pk_un (by omega)]
    exact h.2.2 r' hr' k' h1 hk'
theorem hr_ST_mg {K : Nat} {M : Nat → Nat → Nat} {wp st : Nat → Int32} (h : hr_ST K M wp st) {r k : Nat} (hr : r < 4) (hk : k < K) (hK : K ≤ 8) {y : Int32} (hy : hr_WF M wp k y) : hr_ST K M wp (upd st (8 * r + k) (hr_mg (st (8 * r + k)) y)) := by
  refine hr_ST_upd h hr hk hK (hr_WF_mg (h.1 r hr k (by omega)) hy) ?_
  rw [hr_mg_ln _ _ (show r < 8 by omega), h.2.1 r hr k (by omega)]
  have := (hy.2 r hr).1
  omega
def hr_MD (M : Nat → Nat → Nat) (md : Nat → Int32) : Prop := ∀ k, k < 8 → ∀ d, d < 32 → bt (md k) d = (decide (1 ≤ d % 8) && decide (d % 8 ≤ M k (d / 8)))
/-- the digest tree -/
def hr_ct (x : Int32) : Nat := x.toBitVec.toNat % 4096
def hr_pr (st : Nat → Int32) (r j : Nat) : Nat := hr_ct (st (8 * r + 2 * j)) + hr_ct (st (8 * r + 2 * j + 1)) * 4096
def hr_hf (st : Nat → Int32) (r h : Nat) : Nat := hr_pr st r (2 * h) + hr_pr st r (2 * h + 1) * 16777216
def hr_TR (st : Nat → Int32) (tr : Nat → Int64) : Prop :=
  (∀ r, r < 4 → ∀ k, k < 8 → tr (16 * r + (8 + k)) = lN (hr_ct (st (8 * r + k)))) ∧ (∀ r, r < 4 → ∀ j, j < 4 → tr (16 * r + (4 + j)) = lN (hr_pr st r j)) ∧ (∀ r, r < 4 → ∀ h, h < 2 → tr (16 * r + (2 + h)) = lN (hr_hf st r h))
theorem hr_ct_lt (x : Int32) : hr_ct x < 4096 := Nat.mod_lt _ (by decide)
theorem hr_pr_lt (st : Nat → Int32) (r j : Nat) : hr_pr st r j < 16777216 := by
  unfold hr_pr
  have := hr_ct_lt (st (8 * r + 2 * j))
  have := hr_ct_lt (st (8 * r + 2 * j + 1))
  omega
theorem hr_ct_eq {x y : Int32} (h : hr_ct x = hr_ct y) : ∀ w, w < 4 → hr_ln x w = hr_ln y w := hr_low' 4 h
theorem hr_or12 (a b : Nat) (ha : a < 4096) (hb : b < 4096) : lN a ||| (lN b <<< (((12 : Int32) <<< ((0 : Int32) &&& 31)).toInt64 &&& 63)) = lN (a + b * 4096) := by
  have e : ((12 : Int32) <<< ((0 : Int32) &&& 31)) = nI 12 := by decide +kernel
  rw [e, wb_shl b (show 12 < 64 by decide)]
  exact g_or' (k := 12) (p := 4096) (by decide) ha (by omega)
theorem hr_or24 (a b : Nat) (ha : a < 16777216) (hb : b < 16777216) : lN a ||| (lN b <<< (((12 : Int32) <<< ((1 : Int32) &&& 31)).toInt64 &&& 63)) = lN (a + b * 16777216) := by
  have e : ((12 : Int32) <<< ((1 : Int32) &&& 31)) = nI 24 := by decide +kernel
  rw [e, wb_shl b (show 24 < 64 by decide)]
  exact g_or' (k := 24) (p := 16777216) (by decide) ha (by omega)
theorem hr_TR_store {st : Nat → Int32} {tr : Nat → Int64} (h : hr_TR st tr) {r k : Nat} (hr : r < 4) (hk : k < 8) (x : Int32) (t1 t2 t3 : Nat → Int64)
    (h1 : t1 = vp_updL tr (16 * r + (8 + k)) (lN (hr_ct x)))
    (h2 : t2 = vp_updL t1 (16 * r + (4 + k / 2)) (t1 (16 * r + 2 * (4 + k / 2)) ||| (t1 (16 * r + 2 * (4 + k / 2) + 1) <<< (((12 : Int32) <<< ((0 : Int32) &&& 31)).toInt64 &&& 63))))
    (h3 : t3 = vp_updL t2 (16 * r + (2 + k / 4)) (t2 (16 * r + 2 * (2 + k / 4)) ||| (t2 (16 * r + 2 * (2 + k / 4) + 1) <<< (((12 : Int32) <<< ((1 : Int32) &&& 31)).toInt64 &&& 63)))) : hr_TR (upd st (8 * r + k) x) t3 := by
  have L1 : ∀ r', r' < 4 → ∀ k', k' < 8 → t1 (16 * r' + (8 + k')) = lN (hr_ct (upd st (8 * r + k) x (8 * r' + k'))) := by
    intro r' hr' k' hk'
    by_cases c : r' = r ∧ k' = k
    · rw [c.1, c.2, h1, pk_uLs, pk_us]
    · rw [h1, pk_uLn (by omega), pk_un (by omega)]
      exact h.1 r' hr' k' hk'
  have L2 : ∀ r', r' < 4 → ∀ k', k' < 8 → t2 (16 * r' + (8 + k')) = lN (hr_ct (upd st (8 * r + k) x (8 * r' + k'))) := by
    intro r' hr' k' hk'
    rw [h2, pk_uLn (by omega)]
    exact L1 r' hr' k' hk'
  have P2 : ∀ r', r' < 4 → ∀ j, j < 4 → t2 (16 * r' + (4 + j)) = lN (hr_pr (upd st (8 * r + k) x) r' j) := by
    intro r' hr' j hj
    by_cases c : r' = r ∧ j = k / 2
    · obtain ⟨rfl, rfl⟩ := c
      have e1 := L1 r' hr (2 * (k / 2)) (by omega)
      have e2 := L1 r' hr (2 * (k / 2) + 1) (by omega)
      rw [h2, pk_uLs, show 16 * r' + 2 * (4 + k / 2) = 16 * r' + (8 + 2 * (k / 2)) by omega, show 16 * r' + (8 + 2 * (k / 2)) + 1 = 16 * r' + (8 + (2 * (k / 2) + 1)) by omega, e1, e2, hr_or12 _ _ (hr_ct_lt _) (hr_ct_lt _)]
      rfl
    · rw [h2, pk_uLn (by omega), h1, pk_uLn (by omega), h.2.1 r' hr' j hj]
      unfold hr_pr
      rw [pk_un (by omega), pk_un (by omega)]
  refine ⟨fun r' hr' k' hk' => ?_, fun r' hr' j hj => ?_, fun r' hr' g hg => ?_⟩
  · rw [h3, pk_uLn (by omega)]
    exact L2 r' hr' k' hk'
  · rw [h3, pk_uLn (by omega)]
    exact P2 r' hr' j hj
  · by_cases c : r' = r ∧ g = k / 4
    · obtain ⟨rfl, rfl⟩ := c
      have e1 := P2 r' hr (2 * (k / 4)) (by omega)
      have e2 := P2 r' hr (2 * (k / 4) + 1) (by omega)
      rw [h3, pk_uLs, show 16 * r' + 2 * (2 + k / 4) = 16 * r' + (4 + 2 * (k / 4)) by omega, show 16 * r' + (4 + 2 * (k / 4)) + 1 = 16 * r' + (4 + (2 * (k / 4) + 1)) by omega, e1, e2, hr_or24 _ _ (hr_pr_lt _ _ _) (hr_pr_lt _ _ _)]
      rfl
    · rw [h3, pk_uLn (by omega), h2, pk_uLn (by omega), h1, pk_uLn (by omega), h.2.2 r' hr' g hg]
      unfold hr_hf hr_pr
      rw [pk_un (by omega), pk_un (by omega), pk_un (by omega), pk_un (by omega)]
theorem hr_ct0 : hr_ct 0 = 0 := by decide +kernel
theorem hr_pr0 (r j : Nat) : hr_pr (fun _ => 0) r j = 0 := by
  show hr_ct 0 + hr_ct 0 * 4096 = 0
  rw [hr_ct0]
theorem hr_hf0 (r j : Nat) : hr_hf (fun _ => 0) r j = 0 := by
  unfold hr_hf
  rw [hr_pr0, hr_pr0]
theorem hr_TR_0 : hr_TR (fun _ => 0) (fun _ => 0) := by
  refine ⟨fun r _ k _ => ?_, fun r _ j _ => ?_, fun r _ g _ => ?_⟩
  · show (0 : Int64) = lN (hr_ct 0)
    rw [hr_ct0]
    rfl
  · rw [hr_pr0]
    rfl
  · rw [hr_hf0]
    rfl
end
section
/-! small methods of both sides -/
theorem hr_10 : ¬ (1 : Int32) = 0 := by decide
theorem hr_dom (p : Int32) (n : Nat) (hn : n < 2 ^ 31) : (∃ j, j < n ∧ p = nI j) ∨ (p < 0 ∨ ¬ p < nI n) := by
  rcases pk_ix p hn with h | h | h
  · exact Or.inr (Or.inl h)
  · exact Or.inr (Or.inr (Int32.not_lt.mpr h))
  · exact Or.inl h
theorem hr_bitX : ∀ m, m < 16 → ∀ r, r < 4 → ((nI m >>> (nI r &&& 31)) &&& 1) = nI (m / 2 ^ r % 2) := by decide +kernel
theorem hr_sideX : ∀ m, m < 16 → ∀ a, a < 4 → ∀ b, b < 4 → (((((nI m >>> (nI a &&& 31)) ^^^ (nI m >>> (nI b &&& 31))) &&& 1) = 0) ↔ m / 2 ^ a % 2 = m / 2 ^ b % 2) := by decide +kernel
def hr_rb (um sm a b : Nat) : Bool := decide (um / 2 ^ a % 2 = 1) && decide (um / 2 ^ b % 2 = 1) && decide (sm / 2 ^ a % 2 = sm / 2 ^ b % 2)
theorem hr_rb_t {um sm a b : Nat} : hr_rb um sm a b = true ↔ um / 2 ^ a % 2 = 1 ∧ um / 2 ^ b % 2 = 1 ∧ sm / 2 ^ a % 2 = sm / 2 ^ b % 2 := by
  unfold hr_rb
  rw [Bool.and_eq_true, Bool.and_eq_true, decide_eq_true_eq, decide_eq_true_eq, decide_eq_true_eq, and_assoc]
theorem hr_b1 {n : Nat} (h : n % 2 = 1) : ¬ nI (n % 2) = 0 := by
  rw [h]; decide
theorem hr_b0 {n : Nat} (h : ¬ n % 2 = 1) : nI (n % 2) = 0 := by
  rw [show n % 2 = 0 by omega]; rfl
theorem hr_x8 (r k : Nat) : 8 * nI r + nI k = nI (8 * r + k) := by
  show nI 8 * nI r + nI k = _
  rw [pk_mul, nI_add]
theorem hr_y8 (r k : Nat) : nI r * 8 + nI k = nI (8 * r + k) := by
  show nI r * nI 8 + nI k = _
  rw [pk_mul, nI_add, Nat.mul_comm]
theorem hr_x32 (r k : Nat) : 32 * nI r + nI k = nI (32 * r + k) := by
  show nI 32 * nI r + nI k = _
  rw [pk_mul, nI_add]
theorem hr_y32 (r k : Nat) : nI r * 32 + nI k = nI (32 * r + k) := by
  show nI r * nI 32 + nI k = _
  rw [pk_mul, nI_add, Nat.mul_comm]
theorem hr_x6 (r k : Nat) : 6 * nI r + nI k = nI (6 * r + k) := by
  show nI 6 * nI r + nI k = _
  rw [pk_mul, nI_add]
theorem hr_y6 (r k : Nat) : nI r * 6 + nI k = nI (6 * r + k) := by
  show nI r * nI 6 + nI k = _
  rw [pk_mul, nI_add, Nat.mul_comm]
theorem hr_in8 {r k : Nat} (hr : r < 4) (hk : k < 8) {e : Int32} (he : e = nI (8 * r + k)) : vp_in e 32 := by
  subst he
  exact vp_in_nI (by omega) (by decide)
theorem hr_cl {n : Nat} {e : Int32} (he : e = nI n) (hn : n < 2 ^ 31) : e.toNatClampNeg = n := by
  subst he
  exact nI_clamp hn
theorem hr_rd (a : Nat → Int32) {n : Nat} {e : Int32} (he : e = nI n) (hn : n < 2 ^ 31) : a e.toNatClampNeg = a n := by
  rw [hr_cl he hn]
theorem hr_wr (a : Nat → Int32) {n : Nat} {e x y : Int32} (he : e = nI n) (hn : n < 2 ^ 31) (hx : x = y) : upd a e.toNatClampNeg x = upd a n y := by
  rw [hr_cl he hn, hx]
section
variable {K Lq Rq Wq um sm : Nat} {M : Nat → Nat → Nat} {st wv wp nc nt nk ns mt mf mo mk ms ch ck cs so sa sb sd sc md : Nat → Int32} {tr : Nat → Int64}
variable {post : Int32 → Prop}
theorem xo_in {p q : Int32} {n : Nat} (j : Nat) (hj : j < n) (hn : n < 2 ^ 31) (hp : p = nI j) (hq : q = nI n) (h : post 0) : wpX_outside post (nI K, nI Lq, nI Rq, nI Wq, nI um, nI sm, st, tr, wv, wp, nc, nt, nk, ns, mt, mf, mo, mk, ms, ch, ck, cs, so, sa, sb, sd, sc) p q := by
  subst hp hq
  exact br_f (nI_pos (by omega)) (br_t (nI_lt hj hn) h)
theorem xo_bad {p q : Int32} (hb : p < 0 ∨ ¬ p < q) (h : post 1) : wpX_outside post (nI K, nI Lq, nI Rq, nI Wq, nI um, nI sm, st, tr, wv, wp, nc, nt, nk, ns, mt, mf, mo, mk, ms, ch, ck, cs, so, sa, sb, sd, sc) p q := by
  by_cases h0 : p < 0
  · exact br_t h0 h
  · exact br_f h0 (br_f (hb.resolve_left h0) h)
theorem yo_in {p q : Int32} {n : Nat} (j : Nat) (hj : j < n) (hn : n < 2 ^ 31) (hp : p = nI j) (hq : q = nI n) (h : post 0) : wpY_out post (nI K, nI Lq, nI Rq, nI Wq, md, wv, hr_F wp, hr_F st, hr_B um, hr_B sm, nc, nt, nk, hr_F ns, mt, mf, mo, mk, hr_F ms, ch, ck, hr_F cs, so, sa, sb, sd, sc) p q := by
  subst hp hq
  exact br_f (nI_pos (by omega)) (br_t (nI_lt hj hn) h)
theorem yo_bad {p q : Int32} (hb : p < 0 ∨ ¬ p < q) (h : post 1) : wpY_out post (nI K, nI Lq, nI Rq, nI Wq, md, wv, hr_F wp, hr_F st, hr_B um, hr_B sm, nc, nt, nk, hr_F ns, mt, mf, mo, mk, hr_F ms, ch, ck, hr_F cs, so, sa, sb, sd, sc) p q := by
  by_cases h0 : p < 0
  · exact br_t h0 h
  · exact br_f h0 (br_f (hb.resolve_left h0) h)
theorem xu_t {p : Int32} {r : Nat} (hum : um < 16) (hr : r < 4) (hp : p = nI r) (hu : um / 2 ^ r % 2 = 1) (h : post 1) : wpX_isUp post (nI K, nI Lq, nI Rq, nI Wq, nI um, nI sm, st, tr, wv, wp, nc, nt, nk, ns, mt, mf, mo, mk, ms, ch, ck, cs, so, sa, sb, sd, sc) p := by
  subst hp
  have e := hr_bitX um hum r hr
  exact br_f (by rw [e]; exact hr_b1 hu) h
theorem xu_f {p : Int32} {r : Nat} (hum : um < 16) (hr : r < 4) (hp : p = nI r) (hu : ¬ um / 2 ^ r % 2 = 1) (h : post 0) : wpX_isUp post (nI K, nI Lq, nI Rq, nI Wq, nI um, nI sm, st, tr, wv, wp, nc, nt, nk, ns, mt, mf, mo, mk, ms, ch, ck, cs, so, sa, sb, sd, sc) p := by
  subst hp
  have e := hr_bitX um hum r hr
  exact br_t (by rw [e]; exact hr_b0 hu) h
theorem xs_t {p q : Int32} {a b : Nat} (hsm : sm < 16) (ha : a < 4) (hb : b < 4) (hp : p = nI a) (hq : q = nI b) (hu : sm / 2 ^ a % 2 = sm / 2 ^ b % 2) (h : post 1) : wpX_sameSide post (nI K, nI Lq, nI Rq, nI Wq, nI um, nI sm, st, tr, wv, wp, nc, nt, nk, ns, mt, mf, mo, mk, ms, ch, ck, cs, so, sa, sb, sd, sc) p q := by
  subst hp hq
  exact br_t ((hr_sideX sm hsm a ha b hb).mpr hu) h
theorem xs_f {p q : Int32} {a b : Nat} (hsm : sm < 16) (ha : a < 4) (hb : b < 4) (hp : p = nI a) (hq : q = nI b) (hu : ¬ sm / 2 ^ a % 2 = sm / 2 ^ b % 2) (h : post 0) : wpX_sameSide post (nI K, nI Lq, nI Rq, nI Wq, nI um, nI sm, st, tr, wv, wp, nc, nt, nk, ns, mt, mf, mo, mk, ms, ch, ck, cs, so, sa, sb, sd, sc) p q := by
  subst hp hq
  exact br_f (fun z => hu ((hr_sideX sm hsm a ha b hb).mp z)) h
theorem xr_t {p q : Int32} {a b : Nat} (hum : um < 16) (hsm : sm < 16) (ha : a < 4) (hb : b < 4) (hp : p = nI a) (hq : q = nI b) (hu : hr_rb um sm a b = true) (h : post 1) : wpX_reaches post (nI K, nI Lq, nI Rq, nI Wq, nI um, nI sm, st, tr, wv, wp, nc, nt, nk, ns, mt, mf, mo, mk, ms, ch, ck, cs, so, sa, sb, sd, sc) p q := by
  rw [hr_rb_t] at hu
  unfold wpX_reaches
  dsimp only
  exact xu_t hum ha hp hu.1 (br_f hr_10 (xu_t hum hb hq hu.2.1 (br_f hr_10 (xs_t hsm ha hb hp hq hu.2.2 (br_f hr_10 h)))))
theorem xr_f {p q : Int32} {a b : Nat} (hum : um < 16) (hsm : sm < 16) (ha : a < 4) (hb : b < 4) (hp : p = nI a) (hq : q = nI b) (hu : hr_rb um sm a b = false) (h : post 0) : wpX_reaches post (nI K, nI Lq, nI Rq, nI Wq, nI um, nI sm, st, tr, wv, wp, nc, nt, nk, ns, mt, mf, mo, mk, ms, ch, ck, cs, so, sa, sb, sd, sc) p q := by
  have hu' : ¬ hr_rb um sm a b = true := by rw [hu]; decide
  rw [hr_rb_t] at hu'
  unfold wpX_reaches
  dsimp only
  by_cases h1 : um / 2 ^ a % 2 = 1
  · refine xu_t hum ha hp h1 (br_f hr_10 ?_)
    by_cases h2 : um / 2 ^ b % 2 = 1
    · refine xu_t hum hb hq h2 (br_f hr_10 ?_)
      exact xs_f hsm ha hb hp hq (fun z => hu' ⟨h1, h2, z⟩) (br_t rfl h)
    · exact xu_f hum hb hq h2 (br_t rfl h)
  · exact xu_f hum ha hp h1 (br_t rfl h)
theorem hr_B_eq {m a b : Nat} : hr_B m a = hr_B m b ↔ m / 2 ^ a % 2 = m / 2 ^ b % 2 := by
  unfold hr_B
  exact nI_eq (by omega) (by omega)
theorem hr_B_t {m a : Nat} (h : m / 2 ^ a % 2 = 1) {e : Int32} (he : e = nI a) (ha : a < 4) : ¬ hr_B m e.toNatClampNeg = 0 := by
  rw [hr_cl he (by omega)]
  exact hr_b1 h
theorem hr_B_f {m a : Nat} (h : ¬ m / 2 ^ a % 2 = 1) {e : Int32} (he : e = nI a) (ha : a < 4) : hr_B m e.toNatClampNeg = 0 := by
  rw [hr_cl he (by omega)]
  exact hr_b0 h
theorem hr_in4 {a : Nat} {e : Int32} (he : e = nI a) (ha : a < 4) : vp_in e 4 := by
  subst he
  exact vp_in_nI ha (by decide)
theorem hr_in6 {a : Nat} {e : Int32} (he : e = nI a) (ha : a < 6) : vp_in e 6 := by
  subst he
  exact vp_in_nI ha (by decide)
theorem hr_in24 {a : Nat} {e : Int32} (he : e = nI a) (ha : a < 24) : vp_in e 24 := by
  subst he
  exact vp_in_nI ha (by decide)
theorem yr_t {p q : Int32} {a b : Nat} (ha : a < 4) (hb : b < 4) (hp : p = nI a) (hq : q = nI b) (hu : hr_rb um sm a b = true) (h : post 1) : wpY_reach post (nI K, nI Lq, nI Rq, nI Wq, md, wv, hr_F wp, hr_F st, hr_B um, hr_B sm, nc, nt, nk, hr_F ns, mt, mf, mo, mk, hr_F ms, ch, ck, hr_F cs, so, sa, sb, sd, sc) p q := by
  rw [hr_rb_t] at hu
  exact ⟨hr_in4 hp ha, br_f (hr_B_t hu.1 hp ha) ⟨hr_in4 hq hb, br_f (hr_B_t hu.2.1 hq hb) ⟨hr_in4 hp ha, hr_in4 hq hb, br_t (by rw [hr_cl hp (by omega), hr_cl hq (by omega), hr_B_eq]; exact hu.2.2) h⟩⟩⟩
theorem yr_f {p q : Int32} {a b : Nat} (ha : a < 4) (hb : b < 4) (hp : p = nI a) (hq : q = nI b) (hu : hr_rb um sm a b = false) (h : post 0) : wpY_reach post (nI K, nI Lq, nI Rq, nI Wq, md, wv, hr_F wp, hr_F st, hr_B um, hr_B sm, nc, nt, nk, hr_F ns, mt, mf, mo, mk, hr_F ms, ch, ck, hr_F cs, so, sa, sb, sd, sc) p q := by
  have hu' : ¬ hr_rb um sm a b = true := by rw [hu]; decide
  rw [hr_rb_t] at hu'
  by_cases h1 : um / 2 ^ a % 2 = 1
  · refine ⟨hr_in4 hp ha, br_f (hr_B_t h1 hp ha) ⟨hr_in4 hq hb, ?_⟩⟩
    by_cases h2 : um / 2 ^ b % 2 = 1
    · exact br_f (hr_B_t h2 hq hb) ⟨hr_in4 hp ha, hr_in4 hq hb, br_f (by rw [hr_cl hp (by omega), hr_cl hq (by omega), hr_B_eq]; exact fun z => hu' ⟨h1, h2, z⟩) h⟩
    · exact br_t (hr_B_f h2 hq hb) h
  · exact ⟨hr_in4 hp ha, br_t (hr_B_f h1 hp ha) h⟩
/-- how many are reached -/
def hr_rn (um sm r : Nat) : Nat → Nat
  | 0 => 0
  | n + 1 => hr_rn um sm r n + (if hr_rb um sm r n = true then 1 else 0)
theorem hr_rn_le (um sm r : Nat) : ∀ n, hr_rn um sm r n ≤ n := by
  intro n
  induction n with
  | zero => exact Nat.le_refl 0
  | succ n ih =>
    show hr_rn um sm r n + (if hr_rb um sm r n = true then 1 else 0) ≤ n + 1
    split <;> omega
theorem hr_rn_t {um sm r n : Nat} (h : hr_rb um sm r n = true) : nI (hr_rn um sm r n) + 1 = nI (hr_rn um sm r (n + 1)) := by
  rw [nI_1]
  show _ = nI (hr_rn um sm r n + (if hr_rb um sm r n = true then 1 else 0))
  rw [if_pos h]
theorem hr_rn_f {um sm r n : Nat} (h : hr_rb um sm r n = false) : hr_rn um sm r n = hr_rn um sm r (n + 1) := by
  show _ = hr_rn um sm r n + (if hr_rb um sm r n = true then 1 else 0)
  rw [if_neg (by rw [h]; decide), Nat.add_zero]
theorem xn_loop {r : Nat} (hum : um < 16) (hsm : sm < 16) (hr : r < 4) (h : post (nI (hr_rn um sm r 4))) : ∀ d j, j + d = 4 → wX_reachedFrom_4 post (nI r) (nI K) (nI Lq) (nI Rq) (nI Wq) (nI um) (nI sm) st tr wv wp nc nt nk ns mt mf mo mk ms ch ck cs so sa sb sd sc (d + 1) (nI (hr_rn um sm r j)) (nI j) := by
  intro d
  induction d with
  | zero =>
    intro j hj
    obtain rfl : j = 4 := by omega
    exact br_t (nI_le (a := 4) (by omega) (by decide)) h
  | succ d ih =>
    intro j hj
    refine br_f (nI_ge (b := 4) (by omega) (by decide)) ?_
    cases hb : hr_rb um sm r j
    · refine xr_f hum hsm hr (by omega) rfl rfl hb (br_t rfl (nm_r (nI_1 j) ?_))
      rw [hr_rn_f hb]
      exact ih (j + 1) (by omega)
    · refine xr_t hum hsm hr (by omega) rfl rfl hb (br_f hr_10 (nm_r (hr_rn_t hb) (nm_r (nI_1 j) ?_)))
      exact ih (j + 1) (by omega)
theorem xn {p : Int32} {r : Nat} (hum : um < 16) (hsm : sm < 16) (hr : r < 4) (hp : p = nI r) (h : post (nI (hr_rn um sm r 4))) : wpX_reachedFrom post (nI K, nI Lq, nI Rq, nI Wq, nI um, nI sm, st, tr, wv, wp, nc, nt, nk, ns, mt, mf, mo, mk, ms, ch, ck, cs, so, sa, sb, sd, sc) p := by
  subst hp
  exact ⟨5, xn_loop hum hsm hr h 4 0 rfl⟩
theorem yn_loop {r : Nat} (hr : r < 4) (h : post (nI (hr_rn um sm r 4))) : ∀ d j, j + d = 4 → wY_reached_4 post (nI r) (nI K) (nI Lq) (nI Rq) (nI Wq) md wv (hr_F wp) (hr_F st) (hr_B um) (hr_B sm) nc nt nk (hr_F ns) mt mf mo mk (hr_F ms) ch ck (hr_F cs) so sa sb sd sc (d + 1) (nI (hr_rn um sm r j)) (nI j) := by
  intro d
  induction d with
  | zero =>
    intro j hj
    obtain rfl : j = 4 := by omega
    exact br_t (nI_le (a := 4) (by omega) (by decide)) h
  | succ d ih =>
    intro j hj
    refine br_f (nI_ge (b := 4) (by omega) (by decide)) ?_
    cases hb : hr_rb um sm r j
    · refine yr_f hr (by omega) rfl rfl hb (br_t rfl (nm_r (nI_1 j) ?_))
      rw [hr_rn_f hb]
      exact ih (j + 1) (by omega)
    · refine yr_t hr (by omega) rfl rfl hb (br_f hr_10 (nm_r (hr_rn_t hb) (nm_r (nI_1 j) ?_)))
      exact ih (j + 1) (by omega)
theorem yn {p : Int32} {r : Nat} (hr : r < 4) (hp : p = nI r) (h : post (nI (hr_rn um sm r 4))) : wpY_reached post (nI K, nI Lq, nI Rq, nI Wq, md, wv, hr_F wp, hr_F st, hr_B um, hr_B sm, nc, nt, nk, hr_F ns, mt, mf, mo, mk, hr_F ms, ch, ck, hr_F cs, so, sa, sb, sd, sc) p := by
  subst hp
  exact ⟨5, yn_loop hr h 4 0 rfl⟩
end
end
section
/-! lanes, unions, stores: X; bits and counts: Y -/
theorem hr_8p (i : Nat) : (2 : Nat) ^ (3 * i) = 8 ^ i := by rw [Nat.pow_mul]
theorem hr_lane {x : Int32} (hx : x.toBitVec.toNat < 2 ^ 24) {i : Nat} (hi : i < 8) : (x >>> ((3 * nI i) &&& 31)) &&& 7 = nI (hr_ln x i) := by
  have e : (3 : Int32) * nI i = nI (3 * i) := pk_mul 3 i
  have e1 : nI x.toBitVec.toNat >>> (nI (3 * i) &&& 31) = nI (x.toBitVec.toNat / 2 ^ (3 * i)) := pk_shrN (by omega) _ _ (s_l (3 * i) (by omega))
  have e2 : nI (x.toBitVec.toNat / 2 ^ (3 * i)) &&& 7 = nI (x.toBitVec.toNat / 2 ^ (3 * i) % 2 ^ 3) := pk_andN (Nat.lt_of_le_of_lt (Nat.div_le_self _ _) (by omega)) 3 (by decide)
  rw [e]
  unfold hr_ln
  rw [← hr_8p]
  generalize hn : x.toBitVec.toNat = n at e1 e2
  rw [hr_nI x, hn, e1, e2]
theorem hr_natand (a i : Nat) : a &&& (7 * 2 ^ i) = a / 2 ^ i % 8 * 2 ^ i := by
  rw [← Nat.shiftLeft_eq, ← Nat.shiftLeft_eq, ← Nat.shiftRight_eq_div_pow, show (8 : Nat) = 2 ^ 3 from rfl, ← Nat.and_two_pow_sub_one_eq_mod]
  apply Nat.eq_of_testBit_eq
  intro j
  rw [Nat.testBit_and, Nat.testBit_shiftLeft, Nat.testBit_shiftLeft, Nat.testBit_and, Nat.testBit_shiftRight]
  by_cases h : i ≤ j
  · rw [decide_eq_true (show j ≥ i from h), show i + (j - i) = j by omega, Bool.true_and, Bool.true_and]
  · rw [decide_eq_false (show ¬ j ≥ i from h), Bool.false_and, Bool.false_and, Bool.and_false]
theorem nx_or (a b : Nat) : nI a ||| nI b = nI (a ||| b) := by
  apply Int32.toBitVec_inj.1
  show BitVec.ofNat 32 a ||| BitVec.ofNat 32 b = BitVec.ofNat 32 (a ||| b)
  apply BitVec.eq_of_getLsbD_eq
  intro i hi
  simp [hi]
theorem hr_natorx {u m i : Nat} (hu : u < 2 ^ i) : u ||| (m * 2 ^ i) = u + m * 2 ^ i := by
  rw [Nat.or_comm, ← Nat.shiftLeft_eq, ← Nat.shiftLeft_add_eq_or_of_lt hu, Nat.add_comm]
theorem hr_7sh {i : Nat} (hi : i < 8) : (7 : Int32) <<< (nI (3 * i) &&& 31) = nI (7 * 2 ^ (3 * i)) := by
  have h1 : 2 ^ (3 * i) ≤ 2 ^ 21 := Nat.pow_le_pow_right (by decide) (by omega)
  exact pk_shlN (n := 7) _ (3 * i) (s_l (3 * i) (by omega)) (by omega)
theorem hr_and7 (x : Int32) (i : Nat) : x &&& nI (7 * 2 ^ (3 * i)) = nI (hr_ln x i * 2 ^ (3 * i)) := by
  have e := nx_and x.toBitVec.toNat (7 * 2 ^ (3 * i))
  rw [hr_natand, hr_8p, ← hr_nI] at e
  rw [hr_8p]
  exact e
theorem hr_ln_sz (x : Int32) {i : Nat} (hi : i < 8) : hr_ln x i * 2 ^ (3 * i) < 2 ^ 31 := by
  have h1 : 2 ^ (3 * i) ≤ 2 ^ 21 := Nat.pow_le_pow_right (by decide) (by omega)
  have h2 := hr_ln_lt x i
  have h3 : hr_ln x i * 2 ^ (3 * i) ≤ 7 * 2 ^ 21 := Nat.mul_le_mul (by omega) h1
  omega
section
variable {K Lq Rq Wq um sm : Nat} {M : Nat → Nat → Nat} {st wv wp nc nt nk ns mt mf mo mk ms ch ck cs so sa sb sd sc md : Nat → Int32} {tr : Nat → Int64}
variable {post : Int32 → Prop}
theorem xl {x p : Int32} {i : Nat} (hx : x.toBitVec.toNat < 2 ^ 24) (hi : i < 8) (hp : p = nI i) (h : post (nI (hr_ln x i))) : wpX_lane post (nI K, nI Lq, nI Rq, nI Wq, nI um, nI sm, st, tr, wv, wp, nc, nt, nk, ns, mt, mf, mo, mk, ms, ch, ck, cs, so, sa, sb, sd, sc) x p := by
  subst hp
  have e := hr_lane hx hi
  show post _
  rw [e]
  exact h
theorem hr_3i (i : Nat) : nI (3 * i) + 3 = nI (3 * (i + 1)) := nI_add (3 * i) 3
theorem xm_loop {x y : Int32} (h : post (hr_mg x y)) : ∀ d i, i + d = 8 → wX_merge_12 post x y (nI K) (nI Lq) (nI Rq) (nI Wq) (nI um) (nI sm) st tr wv wp nc nt nk ns mt mf mo mk ms ch ck cs so sa sb sd sc (d + 1) (nI (hr_dg (fun j => max (hr_ln x j) (hr_ln y j)) i)) (nI (3 * i)) := by
  intro d
  induction d with
  | zero =>
    intro i hi
    obtain rfl : i = 8 := by omega
    exact br_t (nI_le (a := 24) (by omega) (by decide)) h
  | succ d ih =>
    intro i hi
    have hi8 : i < 8 := by omega
    have hu : hr_dg (fun j => max (hr_ln x j) (hr_ln y j)) i < 2 ^ (3 * i) := by
      rw [hr_8p]
      exact hr_dg_lt _ (hr_mg_f x y) i
    have step : ∀ m, m = max (hr_ln x i) (hr_ln y i) → nI (hr_dg (fun j => max (hr_ln x j) (hr_ln y j)) i) ||| nI (m * 2 ^ (3 * i)) = nI (hr_dg (fun j => max (hr_ln x j) (hr_ln y j)) (i + 1)) := by
      intro m hm
      rw [nx_or, hr_natorx hu, hm, hr_8p]
      rfl
    have hp : 0 < 2 ^ (3 * i) := Nat.two_pow_pos _
    refine br_f (nI_ge (b := 24) (by omega) (by decide)) (nm_r (hr_7sh hi8) (nm_r (hr_and7 x i) (nm_r (hr_and7 y i) ?_)))
    by_cases c : hr_ln x i ≤ hr_ln y i
    · refine br_t (nI_le (Nat.mul_le_mul_right _ c) (hr_ln_sz y hi8)) (nm_r (step _ (by omega)) (nm_r (hr_3i i) ?_))
      exact ih (i + 1) (by omega)
    · refine br_f (nI_ge (Nat.mul_lt_mul_of_pos_right (by omega) hp) (hr_ln_sz x hi8)) (nm_r (step _ (by omega)) (nm_r (hr_3i i) ?_))
      exact ih (i + 1) (by omega)
theorem xm {x y : Int32} (hx : x.toBitVec.toNat < 2 ^ 24) (h : post (hr_mg x y)) : wpX_merge post (nI K, nI Lq, nI Rq, nI Wq, nI um, nI sm, st, tr, wv, wp, nc, nt, nk, ns, mt, mf, mo, mk, ms, ch, ck, cs, so, sa, sb, sd, sc) x y := by
  by_cases c : x = y
  · subst c
    rw [hr_mg_self hx] at h
    exact br_t rfl h
  · exact br_f c ⟨9, xm_loop h 8 0 rfl⟩
theorem hr_and1 {z : Int32} : z &&& 1 = 0 ↔ bt z 0 = false := by
  have e : z &&& 1 = nI (z.toBitVec.toNat % 2 ^ 1) := pk_and z 1 (by decide)
  have e2 : bt z 0 = z.toBitVec.toNat.testBit 0 := rfl
  rw [e, e2, Nat.testBit_zero, ← nI_0, nI_eq (by omega) (by decide), decide_eq_false_iff_not]
  omega
theorem hr_hasY (x : Int32) {d : Nat} (hd : d < 32) : ((x.toUInt32 >>> ((nI d).toUInt32 &&& Int32.toUInt32 31)).toInt32) &&& 1 = 0 ↔ bt x d = false := by
  rw [hr_and1, b_ushr d hd, Nat.add_zero]
theorem yh_t {x p : Int32} {d : Nat} (hd : d < 32) (hp : p = nI d) (hb : bt x d = true) (h : post 1) : wpY_has post (nI K, nI Lq, nI Rq, nI Wq, md, wv, hr_F wp, hr_F st, hr_B um, hr_B sm, nc, nt, nk, hr_F ns, mt, mf, mo, mk, hr_F ms, ch, ck, hr_F cs, so, sa, sb, sd, sc) x p := by
  subst hp
  refine br_f ?_ h
  rw [hr_hasY x hd, hb]
  decide
theorem yh_f {x p : Int32} {d : Nat} (hd : d < 32) (hp : p = nI d) (hb : bt x d = false) (h : post 0) : wpY_has post (nI K, nI Lq, nI Rq, nI Wq, md, wv, hr_F wp, hr_F st, hr_B um, hr_B sm, nc, nt, nk, hr_F ns, mt, mf, mo, mk, hr_F ms, ch, ck, hr_F cs, so, sa, sb, sd, sc) x p := by
  subst hp
  refine br_t ?_ h
  rw [hr_hasY x hd, hb]
theorem yc_loop {x : Int32} {w : Nat} (hw : w < 4) (h : post (nI (hr_ln x w))) : ∀ d o, o + d = 8 → 1 ≤ o → wY_count_5 post (hr_bf x) (nI w) (nI K) (nI Lq) (nI Rq) (nI Wq) md wv (hr_F wp) (hr_F st) (hr_B um) (hr_B sm) nc nt nk (hr_F ns) mt mf mo mk (hr_F ms) ch ck (hr_F cs) so sa sb sd sc (d + 1) (nI (min (o - 1) (hr_ln x w))) (nI o) := by
  intro d
  induction d with
  | zero =>
    intro o ho _
    obtain rfl : o = 8 := by omega
    have e : min (8 - 1) (hr_ln x w) = hr_ln x w := by have := hr_ln_lt x w; omega
    rw [e]
    exact br_t (nI_lt (a := 7) (by omega) (by decide)) h
  | succ d ih =>
    intro o ho h1
    have hd : 8 * w + o < 32 := by omega
    have e1 : (8 * w + o) % 8 = o := by omega
    have e2 : (8 * w + o) / 8 = w := by omega
    have hb := hr_bt (x := x) hd
    refine br_f (nI_nlt (a := 7) (by omega) (by omega)) ?_
    by_cases c : o ≤ hr_ln x w
    · refine yh_t hd (hr_x8 w o) (by rw [hb, hr_ib_iff, e1, e2]; exact ⟨h1, c⟩) (br_f hr_10 (nm_r (e' := nI (min (o + 1 - 1) (hr_ln x w))) ?_ (nm_r (nI_1 o) ?_)))
      · rw [nI_1]
        exact congrArg nI (by omega)
      · exact ih (o + 1) (by omega) (by omega)
    · have hf : hr_ib x (8 * w + o) = false := by
        rw [← Bool.not_eq_true, hr_ib_iff, e1, e2]
        omega
      refine yh_f hd (hr_x8 w o) (by rw [hb, hf]) (br_t rfl (nm_r (nI_1 o) ?_))
      have e : min (o - 1) (hr_ln x w) = min (o + 1 - 1) (hr_ln x w) := by omega
      rw [e]
      exact ih (o + 1) (by omega) (by omega)
theorem yc {x y p : Int32} {w : Nat} (hw : w < 4) (hy : y = hr_bf x) (hp : p = nI w) (h : post (nI (hr_ln x w))) : wpY_count post (nI K, nI Lq, nI Rq, nI Wq, md, wv, hr_F wp, hr_F st, hr_B um, hr_B sm, nc, nt, nk, hr_F ns, mt, mf, mo, mk, hr_F ms, ch, ck, hr_F cs, so, sa, sb, sd, sc) y p := by
  subst hp hy
  refine ⟨8, ?_⟩
  have q := yc_loop (um := um) (sm := sm) (K := K) (Lq := Lq) (Rq := Rq) (Wq := Wq) (md := md) (wv := wv) (wp := wp) (st := st) (nc := nc) (nt := nt) (nk := nk) (ns := ns) (mt := mt) (mf := mf) (mo := mo) (mk := mk) (ms := ms) (ch := ch) (ck := ck) (cs := cs) (so := so) (sa := sa) (sb := sb) (sd := sd) (sc := sc) hw h 7 1 rfl (by decide)
  rw [show min (1 - 1) (hr_ln x w) = 0 by omega] at q
  exact q
end
section
variable {K Lq Rq Wq um sm : Nat} {M : Nat → Nat → Nat} {st wv wp nc nt nk ns mt mf mo mk ms ch ck cs so sa sb sd sc md : Nat → Int32} {tr : Nat → Int64}
theorem hr_i64 (x : Int32) : (x &&& 4095).toInt64 = lN (hr_ct x) := by
  have e : x &&& 4095 = nI (x.toBitVec.toNat % 2 ^ 12) := pk_and x 12 (by decide)
  have h : x.toBitVec.toNat % 2 ^ 12 < 2 ^ 12 := Nat.mod_lt _ (by decide)
  rw [e, nI_l (by omega)]
  rfl
theorem hr_sh1 {n : Nat} (h : n < 2 ^ 31) : nI n >>> ((1 : Int32) &&& 31) = nI (n / 2) := pk_shrN h _ 1 (by decide)
theorem xst {post : SX → Prop} {x p0 p1 : Int32} {r k : Nat} (hr : r < 4) (hk : k < 8) (hT : hr_TR st tr) (hp0 : p0 = nI r) (hp1 : p1 = nI k) (h : ∀ tr', hr_TR (upd st (8 * r + k) x) tr' → post (nI K, nI Lq, nI Rq, nI Wq, nI um, nI sm, upd st (8 * r + k) x, tr', wv, wp, nc, nt, nk, ns, mt, mf, mo, mk, ms, ch, ck, cs, so, sa, sb, sd, sc)) : wpX_store post (nI K, nI Lq, nI Rq, nI Wq, nI um, nI sm, st, tr, wv, wp, nc, nt, nk, ns, mt, mf, mo, mk, ms, ch, ck, cs, so, sa, sb, sd, sc) p0 p1 x := by
  subst hp0 hp1
  have e8 := hr_x8 r k
  have e16 : 16 * nI r = nI (16 * r) := pk_mul 16 r
  refine ⟨hr_in8 hr hk e8, nm_r (hr_wr st e8 (by omega) rfl) (nm_r e16 (nm_r (nI_add 8 k) ⟨?_, nm_r (e' := vp_updL tr (16 * r + (8 + k)) (lN (hr_ct x))) ?_ ⟨3, ?_⟩⟩))⟩
  · rw [nI_add]
    exact vp_in_nI (by omega) (by decide)
  · rw [nI_add, nI_clamp (by omega), hr_i64]
  generalize h1 : vp_updL tr (16 * r + (8 + k)) (lN (hr_ct x)) = t1
  refine br_f (by decide) (nm_r (e' := nI (4 + k / 2)) ?_ (nm_r (e' := nI (16 * r + 2 * (4 + k / 2))) ?_ ⟨?_, ?_, ?_, nm_r (e' := vp_updL t1 (16 * r + (4 + k / 2)) (t1 (16 * r + 2 * (4 + k / 2)) ||| (t1 (16 * r + 2 * (4 + k / 2) + 1) <<< (((12 : Int32) <<< ((0 : Int32) &&& 31)).toInt64 &&& 63)))) ?_ (nm_r (e' := 1) rfl ?_)⟩))
  · rw [hr_sh1 (by omega)]
    exact congrArg nI (by omega)
  · rw [show (2 : Int32) * nI (4 + k / 2) = nI (2 * (4 + k / 2)) from pk_mul 2 _, nI_add]
  · exact vp_in_nI (by omega) (by decide)
  · rw [nI_1]
    exact vp_in_nI (by omega) (by decide)
  · rw [nI_add]
    exact vp_in_nI (by omega) (by decide)
  · rw [nI_add, nI_1, nI_clamp (by omega), nI_clamp (by omega), nI_clamp (by omega)]
  generalize h2 : vp_updL t1 (16 * r + (4 + k / 2)) (t1 (16 * r + 2 * (4 + k / 2)) ||| (t1 (16 * r + 2 * (4 + k / 2) + 1) <<< (((12 : Int32) <<< ((0 : Int32) &&& 31)).toInt64 &&& 63))) = t2
  refine br_f (by decide) (nm_r (e' := nI (2 + k / 4)) ?_ (nm_r (e' := nI (16 * r + 2 * (2 + k / 4))) ?_ ⟨?_, ?_, ?_, nm_r (e' := vp_updL t2 (16 * r + (2 + k / 4)) (t2 (16 * r + 2 * (2 + k / 4)) ||| (t2 (16 * r + 2 * (2 + k / 4) + 1) <<< (((12 : Int32) <<< ((1 : Int32) &&& 31)).toInt64 &&& 63)))) ?_ (nm_r (e' := 2) rfl ?_)⟩))
  · rw [hr_sh1 (by omega)]
    exact congrArg nI (by omega)
  · rw [show (2 : Int32) * nI (2 + k / 4) = nI (2 * (2 + k / 4)) from pk_mul 2 _, nI_add]
  · exact vp_in_nI (by omega) (by decide)
  · rw [nI_1]
    exact vp_in_nI (by omega) (by decide)
  · rw [nI_add]
    exact vp_in_nI (by omega) (by decide)
  · rw [nI_add, nI_1, nI_clamp (by omega), nI_clamp (by omega), nI_clamp (by omega)]
  exact br_t (by decide) (h _ (hr_TR_store hT hr hk x t1 t2 _ h1.symm h2.symm rfl))
theorem xab {post : Int32 → SX → Prop} {x p0 p1 : Int32} {r k : Nat} (hr : r < 4) (hk : k < 8) (hT : hr_TR st tr) (hp0 : p0 = nI r) (hp1 : p1 = nI k) (ho : (st (8 * r + k)).toBitVec.toNat < 2 ^ 24)
    (h : ∀ tr', hr_TR (upd st (8 * r + k) (hr_mg (st (8 * r + k)) x)) tr' → post (if hr_mg (st (8 * r + k)) x = st (8 * r + k) then 0 else 1) (nI K, nI Lq, nI Rq, nI Wq, nI um, nI sm, upd st (8 * r + k) (hr_mg (st (8 * r + k)) x), tr', wv, wp, nc, nt, nk, ns, mt, mf, mo, mk, ms, ch, ck, cs, so, sa, sb, sd, sc)) : wpX_absorb post (nI K, nI Lq, nI Rq, nI Wq, nI um, nI sm, st, tr, wv, wp, nc, nt, nk, ns, mt, mf, mo, mk, ms, ch, ck, cs, so, sa, sb, sd, sc) p0 p1 x := by
  subst hp0 hp1
  have e8 := hr_x8 r k
  refine ⟨hr_in8 hr hk e8, nm_r (hr_rd st e8 (by omega)) (xm ho ?_)⟩
  by_cases c : hr_mg (st (8 * r + k)) x = st (8 * r + k)
  · have q := h tr (by rw [c, hr_upd_same]; exact hT)
    rw [if_pos c, c, hr_upd_same] at q
    exact br_t c q
  · refine br_f c (xst hr hk hT rfl rfl ?_)
    intro tr' ht'
    have q := h tr' ht'
    rw [if_neg c] at q
    exact q
end
end
section
/-! siblings -/
def hr_lv (x : Int32) (w : Nat) : Nat := hr_ln x w - hr_ln x (4 + w)
def hr_sc (x : Int32) : Nat → Nat
  | 0 => 0
  | n + 1 => hr_sc x n + hr_lv x n
def hr_sb (x : Int32) (d : Nat) : Bool := decide (hr_ln x (4 + d / 8) < d % 8) && decide (d % 8 ≤ hr_ln x (d / 8))
theorem hr_sb_t {x : Int32} {d : Nat} : hr_sb x d = true ↔ hr_ln x (4 + d / 8) < d % 8 ∧ d % 8 ≤ hr_ln x (d / 8) := by
  unfold hr_sb
  rw [Bool.and_eq_true, decide_eq_true_eq, decide_eq_true_eq]
def hr_sn (x : Int32) : Nat → Nat
  | 0 => 0
  | n + 1 => hr_sn x n + (if hr_sb x n = true then 1 else 0)
theorem hr_sn_t {x : Int32} {n : Nat} (h : hr_sb x n = true) : hr_sn x (n + 1) = hr_sn x n + 1 := by
  show hr_sn x n + (if hr_sb x n = true then 1 else 0) = _
  rw [if_pos h]
theorem hr_sn_f {x : Int32} {n : Nat} (h : hr_sb x n = false) : hr_sn x (n + 1) = hr_sn x n := by
  show hr_sn x n + (if hr_sb x n = true then 1 else 0) = _
  rw [if_neg (by rw [h]; decide), Nat.add_zero]
theorem hr_sn_mono (x : Int32) : ∀ m n, hr_sn x n ≤ hr_sn x (n + m) := by
  intro m n
  induction m with
  | zero => exact Nat.le_refl _
  | succ m ih =>
    cases hb : hr_sb x (n + m)
    · rw [← Nat.add_assoc, hr_sn_f hb]
      exact ih
    · rw [← Nat.add_assoc, hr_sn_t hb]
      omega
theorem hr_sn_le (x : Int32) : ∀ n, hr_sn x n ≤ n := by
  intro n
  induction n with
  | zero => exact Nat.le_refl _
  | succ n ih =>
    cases hb : hr_sb x n
    · rw [hr_sn_f hb]
      omega
    · rw [hr_sn_t hb]
      omega
def hr_FL (x : Int32) : Prop := ∀ w, w < 4 → hr_ln x (4 + w) ≤ hr_ln x w
theorem hr_WF_FL {M : Nat → Nat → Nat} {wp : Nat → Int32} {k : Nat} {x : Int32} (h : hr_WF M wp k x) : hr_FL x := fun w hw => (h.2 w hw).2.1
theorem hr_sn_blk {x : Int32} {j : Nat} : ∀ o, o ≤ 8 → hr_sn x (8 * j + o) = hr_sn x (8 * j) + (min o (hr_ln x j + 1) - (hr_ln x (4 + j) + 1)) := by
  intro o
  induction o with
  | zero => intro _; rw [Nat.add_zero]; omega
  | succ o ih =>
    intro ho
    have e := ih (by omega)
    have e1 : (8 * j + o) % 8 = o := by omega
    have e2 : (8 * j + o) / 8 = j := by omega
    rw [← Nat.add_assoc]
    by_cases c : hr_ln x (4 + j) < o ∧ o ≤ hr_ln x j
    · rw [hr_sn_t (by rw [hr_sb_t, e1, e2]; exact c), e]
      omega
    · rw [hr_sn_f (by rw [← Bool.not_eq_true, hr_sb_t, e1, e2]; exact c), e]
      omega
theorem hr_sn_sc {x : Int32} (hf : hr_FL x) : ∀ j, j ≤ 4 → hr_sn x (8 * j) = hr_sc x j := by
  intro j
  induction j with
  | zero => intro _; rfl
  | succ j ih =>
    intro hj
    have e := hr_sn_blk (x := x) (j := j) 8 (by omega)
    have f := hf j (by omega)
    have l := hr_ln_lt x j
    show hr_sn x (8 * j + 8) = hr_sc x j + hr_lv x j
    rw [e, ih (by omega)]
    unfold hr_lv
    omega
theorem hr_sc_mono (x : Int32) : ∀ m n, hr_sc x n ≤ hr_sc x (n + m) := by
  intro m n
  induction m with
  | zero => exact Nat.le_refl _
  | succ m ih =>
    show hr_sc x n ≤ hr_sc x (n + m) + hr_lv x (n + m)
    omega
theorem hr_sc_le (x : Int32) : ∀ n, hr_sc x n ≤ 8 * n := by
  intro n
  induction n with
  | zero => exact Nat.le_refl _
  | succ n ih =>
    show hr_sc x n + hr_lv x n ≤ 8 * (n + 1)
    have := hr_ln_lt x n
    unfold hr_lv
    omega
theorem hr_sb_iff {M : Nat → Nat → Nat} {wp : Nat → Int32} {k : Nat} {x : Int32} (h : hr_WF M wp k x) {d : Nat} (hd : d < 32) : hr_sb x d = true ↔ (hr_ib x d = true ∧ ∀ v, v < 32 → hr_ib x v = true → hr_ib (wp (32 * k + v)) d = false) := by
  obtain ⟨_, _, a3, a4⟩ := h.2 (d / 8) (by omega)
  rw [hr_sb_t, hr_ib_iff]
  constructor
  · intro ⟨c1, c2⟩
    refine ⟨⟨by omega, c2⟩, fun v hv hx => ?_⟩
    have := a3 v hv hx
    rw [← Bool.not_eq_true, hr_ib_iff]
    omega
  · intro ⟨⟨c1, c2⟩, c3⟩
    refine ⟨?_, c2⟩
    by_cases z : hr_ln x (4 + d / 8) < d % 8
    · exact z
    · obtain ⟨v, hv, h1, h2⟩ := a4 (by omega)
      have q := c3 v hv h1
      rw [← Bool.not_eq_true, hr_ib_iff] at q
      omega
theorem hr_rk (x : Int32) (q : Nat) : (∃ d, d < 32 ∧ hr_sb x d = true ∧ hr_sn x d = q) ∨ hr_sn x 32 ≤ q := by
  have key : ∀ n, (∃ d, d < n ∧ hr_sb x d = true ∧ hr_sn x d = q) ∨ hr_sn x n ≤ q := by
    intro n
    induction n with
    | zero => exact Or.inr (Nat.zero_le _)
    | succ n ih =>
      rcases ih with ⟨d, hd, h1, h2⟩ | h
      · exact Or.inl ⟨d, by omega, h1, h2⟩
      · cases hb : hr_sb x n
        · exact Or.inr (by rw [hr_sn_f hb]; exact h)
        · by_cases c : hr_sn x n = q
          · exact Or.inl ⟨n, by omega, hb, c⟩
          · exact Or.inr (by rw [hr_sn_t hb]; omega)
  exact key 32
theorem hr_w4 (w : Nat) : nI w + 4 = nI (4 + w) := by
  have e : nI w + nI 4 = nI (w + 4) := nI_add w 4
  rw [Nat.add_comm] at e
  exact e
section
variable {K Lq Rq Wq um sm : Nat} {M : Nat → Nat → Nat} {st wv wp nc nt nk ns mt mf mo mk ms ch ck cs so sa sb sd sc md : Nat → Int32} {tr : Nat → Int64}
variable {post : Int32 → Prop}
theorem xlv {x p : Int32} {w : Nat} (hx : x.toBitVec.toNat < 2 ^ 24) (hf : hr_FL x) (hw : w < 4) (hp : p = nI w) (h : post (nI (hr_lv x w))) : wpX_liveOf post (nI K, nI Lq, nI Rq, nI Wq, nI um, nI sm, st, tr, wv, wp, nc, nt, nk, ns, mt, mf, mo, mk, ms, ch, ck, cs, so, sa, sb, sd, sc) x p := by
  subst hp
  unfold wpX_liveOf
  dsimp only
  refine xl hx (show w < 8 by omega) rfl (xl hx (show 4 + w < 8 by omega) (hr_w4 w) ?_)
  rw [pk_sub (hf w hw)]
  exact h
theorem xsc_loop {x : Int32} (hx : x.toBitVec.toNat < 2 ^ 24) (hf : hr_FL x) (h : post (nI (hr_sc x 4))) : ∀ d j, j + d = 4 → wX_siblingCount_4 post x (nI K) (nI Lq) (nI Rq) (nI Wq) (nI um) (nI sm) st tr wv wp nc nt nk ns mt mf mo mk ms ch ck cs so sa sb sd sc (d + 1) (nI (hr_sc x j)) (nI j) := by
  intro d
  induction d with
  | zero =>
    intro j hj
    obtain rfl : j = 4 := by omega
    exact br_t (nI_le (a := 4) (by omega) (by decide)) h
  | succ d ih =>
    intro j hj
    refine br_f (nI_ge (b := 4) (by omega) (by decide)) ?_
    refine xlv hx hf (show j < 4 by omega) rfl (nm_r (nI_add _ _) (nm_r (nI_1 j) ?_))
    exact ih (j + 1) (by omega)
theorem xsc {x : Int32} (hx : x.toBitVec.toNat < 2 ^ 24) (hf : hr_FL x) (h : post (nI (hr_sc x 4))) : wpX_siblingCount post (nI K, nI Lq, nI Rq, nI Wq, nI um, nI sm, st, tr, wv, wp, nc, nt, nk, ns, mt, mf, mo, mk, ms, ch, ck, cs, so, sa, sb, sd, sc) x := ⟨5, xsc_loop hx hf h 4 0 rfl⟩
theorem xsd_t {x : Int32} {e : Nat} (hx : x.toBitVec.toNat < 2 ^ 24) (hf : hr_FL x) (he : e < 32) (hb : hr_sb x e = true) (h : post (nI e)) : ∀ d j, j + d = e / 8 → wX_siblingDot_5 post x (nI K) (nI Lq) (nI Rq) (nI Wq) (nI um) (nI sm) st tr wv wp nc nt nk ns mt mf mo mk ms ch ck cs so sa sb sd sc (d + 1) (nI (hr_sn x e - hr_sc x j)) (nI j) := by
  have bl := hr_sn_blk (x := x) (j := e / 8) (e % 8) (by omega)
  rw [show 8 * (e / 8) + e % 8 = e by omega, hr_sn_sc hf (e / 8) (by omega)] at bl
  rw [hr_sb_t] at hb
  intro d
  induction d with
  | zero =>
    intro j hj
    obtain rfl : j = e / 8 := by omega
    have l1 : hr_sn x e - hr_sc x (e / 8) < hr_lv x (e / 8) := by
      unfold hr_lv
      omega
    have l2 := hr_ln_lt x (e / 8)
    have l3 : hr_lv x (e / 8) < 8 := by unfold hr_lv; omega
    refine br_f (nI_ge (b := 4) (by omega) (by decide)) ?_
    refine xlv hx hf (show e / 8 < 4 by omega) rfl (br_f (nI_ge l1 (by omega)) ?_)
    refine xl hx (show 4 + e / 8 < 8 by omega) (hr_w4 _) ?_
    rw [hr_x8, nI_1, nI_add]
    have e3 : 8 * (e / 8) + hr_ln x (4 + e / 8) + 1 + (hr_sn x e - hr_sc x (e / 8)) = e := by omega
    rw [e3]
    exact h
  | succ d ih =>
    intro j hj
    obtain ⟨m, hm⟩ : ∃ m, e / 8 = j + 1 + m := ⟨e / 8 - j - 1, by omega⟩
    have mo := hr_sc_mono x m (j + 1)
    rw [← hm] at mo
    have e4 : hr_sc x (j + 1) = hr_sc x j + hr_lv x j := rfl
    have l1 : hr_lv x j ≤ hr_sn x e - hr_sc x j := by omega
    have l4 := hr_sn_le x e
    refine br_f (nI_ge (b := 4) (by omega) (by decide)) ?_
    refine xlv hx hf (show j < 4 by omega) rfl (br_t (nI_le l1 (by omega)) (nm_r (e' := nI (hr_sn x e - hr_sc x (j + 1))) ?_ (nm_r (nI_1 j) ?_)))
    · rw [pk_sub l1]
      exact congrArg nI (by omega)
    · exact ih (j + 1) (by omega)
theorem xsd_f {x : Int32} {q : Nat} (hx : x.toBitVec.toNat < 2 ^ 24) (hf : hr_FL x) (hq : hr_sn x 32 ≤ q) (hq2 : q < 2 ^ 31) (h : post (-1)) : ∀ d j, j + d = 4 → wX_siblingDot_5 post x (nI K) (nI Lq) (nI Rq) (nI Wq) (nI um) (nI sm) st tr wv wp nc nt nk ns mt mf mo mk ms ch ck cs so sa sb sd sc (d + 1) (nI (q - hr_sc x j)) (nI j) := by
  have bl := hr_sn_sc hf 4 (by omega)
  intro d
  induction d with
  | zero =>
    intro j hj
    obtain rfl : j = 4 := by omega
    exact br_t (nI_le (a := 4) (by omega) (by decide)) h
  | succ d ih =>
    intro j hj
    obtain ⟨m, hm⟩ : ∃ m, 4 = j + 1 + m := ⟨4 - j - 1, by omega⟩
    have mo := hr_sc_mono x m (j + 1)
    rw [← hm] at mo
    have e4 : hr_sc x (j + 1) = hr_sc x j + hr_lv x j := rfl
    have l0 : hr_sn x 32 = hr_sc x 4 := bl
    have l1 : hr_lv x j ≤ q - hr_sc x j := by omega
    refine br_f (nI_ge (b := 4) (by omega) (by decide)) ?_
    refine xlv hx hf (show j < 4 by omega) rfl (br_t (nI_le l1 (by omega)) (nm_r (e' := nI (q - hr_sc x (j + 1))) ?_ (nm_r (nI_1 j) ?_)))
    · rw [pk_sub l1]
      exact congrArg nI (by omega)
    · exact ih (j + 1) (by omega)
theorem yis_t {x p : Int32} {k d : Nat} (hk : k < 8) (hd : d < 32) (hn : ∀ v, v < 32 → hr_ib x v = true → hr_ib (wp (32 * k + v)) d = false) (h : post 1) : ∀ m v, v + m = 32 → wY_isSibling_14 post (nI k) (hr_bf x) (nI d) (nI K) (nI Lq) (nI Rq) (nI Wq) md wv (hr_F wp) (hr_F st) (hr_B um) (hr_B sm) nc nt nk (hr_F ns) mt mf mo mk (hr_F ms) ch ck (hr_F cs) so sa sb sd sc (m + 1) (nI v) := by
  intro m
  induction m with
  | zero =>
    intro v hv
    obtain rfl : v = 32 := by omega
    exact br_t (nI_le (a := 32) (by omega) (by decide)) h
  | succ m ih =>
    intro v hv
    have hv2 : v < 32 := by omega
    refine br_f (nI_ge (b := 32) hv2 (by decide)) ?_
    have hb := hr_bt (x := x) hv2
    cases c : hr_ib x v
    · exact yh_f hv2 rfl (hb.trans c) (br_t rfl (nm_r (nI_1 v) (ih (v + 1) (by omega))))
    · have e := hr_y32 k v
      have q := hn v hv2 c
      rw [← hr_bt hd] at q
      refine yh_t hv2 rfl (hb.trans c) (br_f hr_10 ⟨pk_in (32 * k + v) 256 (by omega) e, ?_⟩)
      exact yh_f hd rfl (by rw [hr_cl e (by omega)]; exact q) (br_t rfl (nm_r (nI_1 v) (ih (v + 1) (by omega))))
theorem yis_f {x p : Int32} {k d v0 : Nat} (hk : k < 8) (hd : d < 32) (hv0 : v0 < 32) (hx : hr_ib x v0 = true) (hw : hr_ib (wp (32 * k + v0)) d = true) (h : post 0) : ∀ m v, v + m = v0 → wY_isSibling_14 post (nI k) (hr_bf x) (nI d) (nI K) (nI Lq) (nI Rq) (nI Wq) md wv (hr_F wp) (hr_F st) (hr_B um) (hr_B sm) nc nt nk (hr_F ns) mt mf mo mk (hr_F ms) ch ck (hr_F cs) so sa sb sd sc (m + 1) (nI v) := by
  intro m
  induction m with
  | zero =>
    intro v hv
    obtain rfl : v = v0 := by omega
    have e := hr_y32 k v
    rw [← hr_bt hd] at hw
    have hb := hr_bt (x := x) hv0
    refine br_f (nI_ge (b := 32) hv0 (by decide)) ?_
    refine yh_t hv0 rfl (hb.trans hx) (br_f hr_10 ⟨pk_in (32 * k + v) 256 (by omega) e, ?_⟩)
    exact yh_t hd rfl (by rw [hr_cl e (by omega)]; exact hw) (br_f hr_10 h)
  | succ m ih =>
    intro v hv
    have hv2 : v < 32 := by omega
    refine br_f (nI_ge (b := 32) hv2 (by decide)) ?_
    have hb := hr_bt (x := x) hv2
    cases c : hr_ib x v
    · exact yh_f hv2 rfl (hb.trans c) (br_t rfl (nm_r (nI_1 v) (ih (v + 1) (by omega))))
    · have e := hr_y32 k v
      have hb2 := hr_bt (x := wp (32 * k + v)) hd
      refine yh_t hv2 rfl (hb.trans c) (br_f hr_10 ⟨pk_in (32 * k + v) 256 (by omega) e, ?_⟩)
      cases c2 : hr_ib (wp (32 * k + v)) d
      · exact yh_f hd rfl (by rw [hr_cl e (by omega)]; exact hb2.trans c2) (br_t rfl (nm_r (nI_1 v) (ih (v + 1) (by omega))))
      · exact yh_t hd rfl (by rw [hr_cl e (by omega)]; exact hb2.trans c2) (br_f hr_10 h)
theorem yis {x : Int32} {k d : Nat} (hk : k < 8) (hd : d < 32) (hx : hr_WF M wp k x) (ht : hr_sb x d = true → post 1) (hf : hr_sb x d = false → post 0) : wpY_isSibling post (nI K, nI Lq, nI Rq, nI Wq, md, wv, hr_F wp, hr_F st, hr_B um, hr_B sm, nc, nt, nk, hr_F ns, mt, mf, mo, mk, hr_F ms, ch, ck, hr_F cs, so, sa, sb, sd, sc) (nI k) (hr_bf x) (nI d) := by
  have hb := hr_bt (x := x) hd
  have iff := hr_sb_iff hx hd
  unfold wpY_isSibling
  dsimp only
  cases c : hr_ib x d
  · refine yh_f hd rfl (hb.trans c) (br_t rfl (hf ?_))
    rw [← Bool.not_eq_true, iff, c]
    exact fun z => absurd z.1 (by decide)
  · refine yh_t hd rfl (hb.trans c) (br_f hr_10 ?_)
    by_cases n : ∀ v, v < 32 → hr_ib x v = true → hr_ib (wp (32 * k + v)) d = false
    · exact ⟨33, yis_t (p := 0) hk hd n (ht (iff.mpr ⟨c, n⟩)) 32 0 rfl⟩
    · have n2 : ∃ v, v < 32 ∧ hr_ib x v = true ∧ hr_ib (wp (32 * k + v)) d = true := by
        apply Classical.byContradiction
        intro z
        apply n
        intro v hv h1
        rw [← Bool.not_eq_true]
        exact fun h2 => z ⟨v, hv, h1, h2⟩
      obtain ⟨v0, hv0, h1, h2⟩ := n2
      exact ⟨v0 + 1, yis_f (p := 0) hk hd hv0 h1 h2 (hf (by rw [← Bool.not_eq_true, iff]; exact fun z => n z.2)) v0 0 (by omega)⟩
theorem yfo4 {x : Int32} {k : Nat} (hk : k < 8) (hx : hr_WF M wp k x) (h : post (nI (hr_sn x 32))) : ∀ m d, d + m = 32 → wY_fieldOf_18 post (nI k) (hr_bf x) 4 (nI K) (nI Lq) (nI Rq) (nI Wq) md wv (hr_F wp) (hr_F st) (hr_B um) (hr_B sm) nc nt nk (hr_F ns) mt mf mo mk (hr_F ms) ch ck (hr_F cs) so sa sb sd sc (m + 1) (nI (hr_sn x d)) (nI d) := by
  intro m
  induction m with
  | zero =>
    intro d hd
    obtain rfl : d = 32 := by omega
    exact br_t (nI_le (a := 32) (by omega) (by decide)) (br_t rfl h)
  | succ m ih =>
    intro d hd
    refine br_f (nI_ge (b := 32) (by omega) (by decide)) ?_
    refine yis hk (by omega) hx (fun c => br_f hr_10 (br_t (by decide) (nm_r (e' := nI (hr_sn x (d + 1))) (by rw [hr_sn_t c, nI_1]) (nm_r (nI_1 d) (ih (d + 1) (by omega)))))) (fun c => br_t rfl (nm_r (nI_1 d) ?_))
    rw [← hr_sn_f c]
    exact ih (d + 1) (by omega)
theorem hr_sub5 (q : Nat) : nI (5 + q) - 5 = nI q := by
  have e : nI (5 + q) - nI 5 = nI (5 + q - 5) := pk_sub (by omega)
  rw [show 5 + q - 5 = q by omega] at e
  exact e
theorem yfo_t {x : Int32} {k e : Nat} (hk : k < 8) (hx : hr_WF M wp k x) (he : e < 32) (hb : hr_sb x e = true) (h : post (nI e)) : ∀ m d, d + m = e → wY_fieldOf_18 post (nI k) (hr_bf x) (nI (5 + hr_sn x e)) (nI K) (nI Lq) (nI Rq) (nI Wq) md wv (hr_F wp) (hr_F st) (hr_B um) (hr_B sm) nc nt nk (hr_F ns) mt mf mo mk (hr_F ms) ch ck (hr_F cs) so sa sb sd sc (m + 1) (nI (hr_sn x d)) (nI d) := by
  have l1 := hr_sn_le x e
  intro m
  induction m with
  | zero =>
    intro d hd
    obtain rfl : d = e := by omega
    refine br_f (nI_ge (b := 32) (by omega) (by decide)) ?_
    refine yis hk he hx (fun _ => br_f hr_10 (br_f (nI_nlt (b := 5) (by omega) (by omega)) (br_t (hr_sub5 _).symm h))) (fun c => ?_)
    rw [hb] at c
    exact absurd c (by decide)
  | succ m ih =>
    intro d hd
    have l2 := hr_sn_le x d
    refine br_f (nI_ge (b := 32) (by omega) (by decide)) ?_
    refine yis hk (by omega) hx (fun c => br_f hr_10 (br_f (nI_nlt (b := 5) (by omega) (by omega)) (br_f ?_ (nm_r (e' := nI (hr_sn x (d + 1))) (by rw [hr_sn_t c, nI_1]) (nm_r (nI_1 d) (ih (d + 1) (by omega))))))) (fun c => br_t rfl (nm_r (nI_1 d) ?_))
    · have mo := hr_sn_mono x m (d + 1)
      rw [show d + 1 + m = e by omega, hr_sn_t c] at mo
      rw [hr_sub5, nI_eq (by omega) (by omega)]
      omega
    · rw [← hr_sn_f c]
      exact ih (d + 1) (by omega)
theorem yfo_f {x : Int32} {k q : Nat} (hk : k < 8) (hx : hr_WF M wp k x) (hq : hr_sn x 32 ≤ q) (hq2 : q < 28) (h : post (-1)) : ∀ m d, d + m = 32 → wY_fieldOf_18 post (nI k) (hr_bf x) (nI (5 + q)) (nI K) (nI Lq) (nI Rq) (nI Wq) md wv (hr_F wp) (hr_F st) (hr_B um) (hr_B sm) nc nt nk (hr_F ns) mt mf mo mk (hr_F ms) ch ck (hr_F cs) so sa sb sd sc (m + 1) (nI (hr_sn x d)) (nI d) := by
  intro m
  induction m with
  | zero =>
    intro d hd
    obtain rfl : d = 32 := by omega
    refine br_t (nI_le (a := 32) (by omega) (by decide)) (br_f ?_ h)
    exact fun z => absurd ((nI_eq (b := 4) (by omega) (by omega)).mp z) (by omega)
  | succ m ih =>
    intro d hd
    have l2 := hr_sn_le x d
    refine br_f (nI_ge (b := 32) (by omega) (by decide)) ?_
    refine yis hk (by omega) hx (fun c => br_f hr_10 (br_f (nI_nlt (b := 5) (by omega) (by omega)) (br_f ?_ (nm_r (e' := nI (hr_sn x (d + 1))) (by rw [hr_sn_t c, nI_1]) (nm_r (nI_1 d) (ih (d + 1) (by omega))))))) (fun c => br_t rfl (nm_r (nI_1 d) ?_))
    · have mo := hr_sn_mono x m (d + 1)
      rw [show d + 1 + m = 32 by omega, hr_sn_t c] at mo
      rw [hr_sub5, nI_eq (by omega) (by omega)]
      omega
    · rw [← hr_sn_f c]
      exact ih (d + 1) (by omega)
end
section
variable {K Lq Rq Wq um sm : Nat} {M : Nat → Nat → Nat} {st wv wp nc nt nk ns mt mf mo mk ms ch ck cs so sa sb sd sc md : Nat → Int32} {tr : Nat → Int64}
/-- a field of a set: one answer for both sides -/
theorem hr_field {x : Int32} {k q : Nat} (hk : k < 8) (hx : hr_WF M wp k x) (hq : q < 33) : ∃ a : Int32, (∀ post : Int32 → Prop, post a → wpX_setField post (nI K, nI Lq, nI Rq, nI Wq, nI um, nI sm, st, tr, wv, wp, nc, nt, nk, ns, mt, mf, mo, mk, ms, ch, ck, cs, so, sa, sb, sd, sc) x (nI q)) ∧ (∀ post : Int32 → Prop, post a → wpY_fieldOf post (nI K, nI Lq, nI Rq, nI Wq, md, wv, hr_F wp, hr_F st, hr_B um, hr_B sm, nc, nt, nk, hr_F ns, mt, mf, mo, mk, hr_F ms, ch, ck, hr_F cs, so, sa, sb, sd, sc) (nI k) (hr_bf x) (nI q)) := by
  have hf := hr_WF_FL hx
  by_cases c : q < 4
  · refine ⟨nI (hr_ln x q), fun post h => br_f (nI_ge (b := 4) c (by decide)) (xl hx.1 (by omega) rfl h), fun post h => br_f (nI_ge (b := 4) c (by decide)) (yc c rfl rfl h)⟩
  · have c1 : (4 : Int32) ≤ nI q := nI_le (a := 4) (by omega) (by omega)
    by_cases c2 : q = 4
    · subst c2
      refine ⟨nI (hr_sn x 32), fun post h => br_t c1 (br_t rfl (xsc hx.1 hf ?_)), fun post h => br_t c1 ⟨33, yfo4 hk hx h 32 0 rfl⟩⟩
      rw [← hr_sn_sc hf 4 (by omega)]
      exact h
    · obtain ⟨s, rfl⟩ : ∃ s, q = 5 + s := ⟨q - 5, by omega⟩
      have c3 : ¬ nI (5 + s) = 4 := fun z => c2 ((nI_eq (b := 4) (by omega) (by omega)).mp z)
      rcases hr_rk x s with ⟨e, he, hb, hs⟩ | hs
      · subst hs
        refine ⟨nI e, fun post h => br_t c1 (br_f c3 ?_), fun post h => br_t c1 ⟨e + 1, yfo_t hk hx he hb h e 0 (by omega)⟩⟩
        refine ⟨e / 8 + 1, ?_⟩
        rw [hr_sub5]
        exact xsd_t hx.1 hf he hb h (e / 8) 0 (by omega)
      · refine ⟨-1, fun post h => br_t c1 (br_f c3 ?_), fun post h => br_t c1 ⟨33, yfo_f hk hx hs (by omega) h 32 0 rfl⟩⟩
        refine ⟨5, ?_⟩
        rw [hr_sub5]
        exact xsd_f hx.1 hf hs (by omega) h 4 0 rfl
end
end
section
/-! differences by the digest tree; due keys -/
theorem hr_m1 {n : Nat} (h : n < 2 ^ 31) : ¬ nI n = (-1 : Int32) := by
  intro z
  have e := nI_toInt h
  rw [z, show (-1 : Int32).toInt = -1 from by decide] at e
  omega
theorem hr_least (P : Nat → Prop) (f K : Nat) : (∃ k, f ≤ k ∧ k < K ∧ P k ∧ ∀ j, f ≤ j → j < k → ¬ P j) ∨ (∀ j, f ≤ j → j < K → ¬ P j) := by
  by_cases h : ∃ k, f ≤ k ∧ k < K ∧ P k
  · obtain ⟨k, ⟨h1, h2, h3⟩, h4⟩ := pk_least (fun k => f ≤ k ∧ k < K ∧ P k) h
    exact Or.inl ⟨k, h1, h2, h3, fun j hj hk hp => h4 j hk ⟨hj, by omega, hp⟩⟩
  · exact Or.inr (fun j h1 h2 h3 => h ⟨j, h1, h2, h3⟩)
theorem hr_cteq {K : Nat} {M : Nat → Nat → Nat} {wp st : Nat → Int32} (h : hr_ST K M wp st) {a b k : Nat} (ha : a < 4) (hb : b < 4) (hk : k < 8) (e : hr_ct (st (8 * a + k)) = hr_ct (st (8 * b + k))) : st (8 * a + k) = st (8 * b + k) :=
  hr_WF_inj (h.1 a ha k hk) (h.1 b hb k hk) (hr_ct_eq e)
theorem hr_preq {K : Nat} {M : Nat → Nat → Nat} {wp st : Nat → Int32} (h : hr_ST K M wp st) {a b j : Nat} (ha : a < 4) (hb : b < 4) (hj : j < 4) (e : hr_pr st a j = hr_pr st b j) : st (8 * a + 2 * j) = st (8 * b + 2 * j) ∧ st (8 * a + (2 * j + 1)) = st (8 * b + (2 * j + 1)) := by
  unfold hr_pr at e
  have l1 := hr_ct_lt (st (8 * a + 2 * j))
  have l2 := hr_ct_lt (st (8 * a + 2 * j + 1))
  have l3 := hr_ct_lt (st (8 * b + 2 * j))
  have l4 := hr_ct_lt (st (8 * b + 2 * j + 1))
  exact ⟨hr_cteq h ha hb (by omega) (by omega), hr_cteq h ha hb (by omega) (by rw [← Nat.add_assoc, ← Nat.add_assoc]; omega)⟩
theorem hr_hfeq {K : Nat} {M : Nat → Nat → Nat} {wp st : Nat → Int32} (h : hr_ST K M wp st) {a b g : Nat} (ha : a < 4) (hb : b < 4) (hg : g < 2) (e : hr_hf st a g = hr_hf st b g) : ∀ j, 4 * g ≤ j → j < 4 * g + 4 → st (8 * a + j) = st (8 * b + j) := by
  unfold hr_hf at e
  have l1 := hr_pr_lt st a (2 * g)
  have l2 := hr_pr_lt st a (2 * g + 1)
  have l3 := hr_pr_lt st b (2 * g)
  have l4 := hr_pr_lt st b (2 * g + 1)
  have q1 := hr_preq h ha hb (j := 2 * g) (by omega) (by omega)
  have q2 := hr_preq h ha hb (j := 2 * g + 1) (by omega) (by omega)
  intro j h1 h2
  have c : j = 2 * (2 * g) ∨ j = 2 * (2 * g) + 1 ∨ j = 2 * (2 * g + 1) ∨ j = 2 * (2 * g + 1) + 1 := by omega
  rcases c with c | c | c | c
  · rw [c]; exact q1.1
  · rw [c]; exact q1.2
  · rw [c]; exact q2.1
  · rw [c]; exact q2.2
theorem hr_hf_lt (st : Nat → Int32) (r h : Nat) : hr_hf st r h < 2 ^ 63 := by
  unfold hr_hf
  have l1 := hr_pr_lt st r (2 * h)
  have l2 := hr_pr_lt st r (2 * h + 1)
  omega
section
variable {K Lq Rq Wq um sm : Nat} {M : Nat → Nat → Nat} {st wv wp nc nt nk ns mt mf mo mk ms ch ck cs so sa sb sd sc md : Nat → Int32} {tr : Nat → Int64}
variable {post : Int32 → Prop}
theorem xes0 {a b k : Nat} (ha : a < 4) (hb : b < 4) (hk : k < 8) (hT : hr_TR st tr) (hS : hr_ST K M wp st) (h0 : ¬ st (8 * a + k) = st (8 * b + k) → post 0) (h1 : st (8 * a + k) = st (8 * b + k) → post (nI 1)) : wX_equalSpan_3 post (nI a) (nI b) (nI k) (nI K) (nI Lq) (nI Rq) (nI Wq) (nI um) (nI sm) st tr wv wp nc nt nk ns mt mf mo mk ms ch ck cs so sa sb sd sc 2 (nI 0) := by
  have ea : 16 * nI a = nI (16 * a) := pk_mul 16 a
  have eb : 16 * nI b = nI (16 * b) := pk_mul 16 b
  have e6 : (8 + nI k) >>> (nI 0 &&& 31) = nI (8 + k) := by
    have e : (8 : Int32) + nI k = nI (8 + k) := nI_add 8 k
    rw [e, pk_shrN (by omega) _ 0 (s_l 0 (by decide))]
    exact congrArg nI (by omega)
  refine br_f (nI_pos (by decide)) (nm_r (e' := nI 1) (by decide +kernel) (nm_r e6 ?_))
  have e7 : nI k &&& (nI 1 - 1) = 0 := by
    have e : nI 1 - 1 = (0 : Int32) := by decide
    rw [e]
    exact Int32.and_zero
  refine br_t e7 ?_
  rw [ea, eb, nI_add, nI_add]
  refine ⟨vp_in_nI (by omega) (by decide), vp_in_nI (by omega) (by decide), ?_⟩
  rw [nI_clamp (by omega), nI_clamp (by omega), hT.1 a ha k hk, hT.1 b hb k hk]
  have l1 := hr_ct_lt (st (8 * a + k))
  have l2 := hr_ct_lt (st (8 * b + k))
  by_cases c : st (8 * a + k) = st (8 * b + k)
  · exact br_t (by rw [c]) (h1 c)
  · refine br_f ?_ (nm_r (e' := -1) (by decide) (br_t (by decide) (h0 c)))
    rw [pk_lEQ (by omega) (by omega)]
    exact fun z => c (hr_cteq hS ha hb hk z)
theorem xes1 {a b k : Nat} (ha : a < 4) (hb : b < 4) (hk : k < 8) (hT : hr_TR st tr) (hS : hr_ST K M wp st) (h2 : k + 2 ≤ 8 → st (8 * a + k) = st (8 * b + k) → st (8 * a + (k + 1)) = st (8 * b + (k + 1)) → post (nI 2)) (hn : wX_equalSpan_3 post (nI a) (nI b) (nI k) (nI K) (nI Lq) (nI Rq) (nI Wq) (nI um) (nI sm) st tr wv wp nc nt nk ns mt mf mo mk ms ch ck cs so sa sb sd sc 2 (nI 0)) : wX_equalSpan_3 post (nI a) (nI b) (nI k) (nI K) (nI Lq) (nI Rq) (nI Wq) (nI um) (nI sm) st tr wv wp nc nt nk ns mt mf mo mk ms ch ck cs so sa sb sd sc 3 (nI 1) := by
  have ea : 16 * nI a = nI (16 * a) := pk_mul 16 a
  have eb : 16 * nI b = nI (16 * b) := pk_mul 16 b
  have e6 : (8 + nI k) >>> (nI 1 &&& 31) = nI (4 + k / 2) := by
    have e : (8 : Int32) + nI k = nI (8 + k) := nI_add 8 k
    rw [e, pk_shrN (by omega) _ 1 (s_l 1 (by decide))]
    exact congrArg nI (by omega)
  refine br_f (nI_pos (by decide)) (nm_r (e' := nI 2) (by decide +kernel) (nm_r e6 ?_))
  have e7 : nI k &&& (nI 2 - 1) = nI (k % 2) := by
    have e : nI 2 - 1 = (1 : Int32) := by decide
    rw [e]
    exact pk_andN (by omega) 1 (by decide)
  rw [e7, ea, eb, nI_add, nI_add]
  by_cases c0 : k % 2 = 0
  · refine br_t (by rw [c0]; rfl) ⟨vp_in_nI (by omega) (by decide), vp_in_nI (by omega) (by decide), ?_⟩
    rw [nI_clamp (by omega), nI_clamp (by omega), hT.2.1 a ha (k / 2) (by omega), hT.2.1 b hb (k / 2) (by omega)]
    have l1 := hr_pr_lt st a (k / 2)
    have l2 := hr_pr_lt st b (k / 2)
    by_cases c : hr_pr st a (k / 2) = hr_pr st b (k / 2)
    · have q := hr_preq hS ha hb (j := k / 2) (by omega) c
      rw [show 2 * (k / 2) = k by omega] at q
      exact br_t (by rw [c]) (h2 (by omega) q.1 q.2)
    · refine br_f ?_ (nm_r (pk_m1 0) hn)
      rw [pk_lEQ (by omega) (by omega)]
      exact c
  · refine br_f ?_ (nm_r (pk_m1 0) hn)
    exact nI_ne0 (by omega) (by omega)
theorem xes2 {a b k : Nat} (ha : a < 4) (hb : b < 4) (hk : k < 8) (hT : hr_TR st tr) (hS : hr_ST K M wp st) (h4 : k + 4 ≤ 8 → (∀ j, k ≤ j → j < k + 4 → st (8 * a + j) = st (8 * b + j)) → post (nI 4)) (hn : wX_equalSpan_3 post (nI a) (nI b) (nI k) (nI K) (nI Lq) (nI Rq) (nI Wq) (nI um) (nI sm) st tr wv wp nc nt nk ns mt mf mo mk ms ch ck cs so sa sb sd sc 3 (nI 1)) : wX_equalSpan_3 post (nI a) (nI b) (nI k) (nI K) (nI Lq) (nI Rq) (nI Wq) (nI um) (nI sm) st tr wv wp nc nt nk ns mt mf mo mk ms ch ck cs so sa sb sd sc 4 (nI 2) := by
  have ea : 16 * nI a = nI (16 * a) := pk_mul 16 a
  have eb : 16 * nI b = nI (16 * b) := pk_mul 16 b
  have e6 : (8 + nI k) >>> (nI 2 &&& 31) = nI (2 + k / 4) := by
    have e : (8 : Int32) + nI k = nI (8 + k) := nI_add 8 k
    rw [e, pk_shrN (by omega) _ 2 (s_l 2 (by decide))]
    exact congrArg nI (by omega)
  refine br_f (nI_pos (by decide)) (nm_r (e' := nI 4) (by decide +kernel) (nm_r e6 ?_))
  have e7 : nI k &&& (nI 4 - 1) = nI (k % 4) := by
    have e : nI 4 - 1 = (3 : Int32) := by decide
    rw [e]
    exact pk_andN (by omega) 2 (by decide)
  rw [e7, ea, eb, nI_add, nI_add]
  by_cases c0 : k % 4 = 0
  · refine br_t (by rw [c0]; rfl) ⟨vp_in_nI (by omega) (by decide), vp_in_nI (by omega) (by decide), ?_⟩
    rw [nI_clamp (by omega), nI_clamp (by omega), hT.2.2 a ha (k / 4) (by omega), hT.2.2 b hb (k / 4) (by omega)]
    by_cases c : hr_hf st a (k / 4) = hr_hf st b (k / 4)
    · have q := hr_hfeq hS ha hb (g := k / 4) (by omega) c
      rw [show 4 * (k / 4) = k by omega] at q
      exact br_t (by rw [c]) (h4 (by omega) q)
    · refine br_f ?_ (nm_r (pk_m1 1) hn)
      rw [pk_lEQ (hr_hf_lt _ _ _) (hr_hf_lt _ _ _)]
      exact c
  · refine br_f ?_ (nm_r (pk_m1 1) hn)
    exact nI_ne0 (by omega) (by omega)
theorem xes {a b k : Nat} (ha : a < 4) (hb : b < 4) (hk : k < 8) (hT : hr_TR st tr) (hS : hr_ST K M wp st) (h0 : ¬ st (8 * a + k) = st (8 * b + k) → post 0) (h : ∀ s, 1 ≤ s → s ≤ 4 → k + s ≤ 8 → (∀ j, k ≤ j → j < k + s → st (8 * a + j) = st (8 * b + j)) → post (nI s)) : wpX_equalSpan post (nI K, nI Lq, nI Rq, nI Wq, nI um, nI sm, st, tr, wv, wp, nc, nt, nk, ns, mt, mf, mo, mk, ms, ch, ck, cs, so, sa, sb, sd, sc) (nI a) (nI b) (nI k) := by
  refine ⟨4, xes2 ha hb hk hT hS (fun l q => h 4 (by decide) (by decide) l q) (xes1 ha hb hk hT hS (fun l q1 q2 => h 2 (by decide) (by decide) l ?_) (xes0 ha hb hk hT hS h0 (fun q => h 1 (by decide) (by decide) (by omega) ?_)))⟩
  · intro j h1 h2
    have c : j = k ∨ j = k + 1 := by omega
    rcases c with c | c
    · rw [c]; exact q1
    · rw [c]; exact q2
  · intro j h1 h2
    rw [show j = k by omega]
    exact q
theorem xfd_t {a b k0 f : Nat} (ha : a < 4) (hb : b < 4) (hK : K ≤ 8) (hT : hr_TR st tr) (hS : hr_ST K M wp st) (hk : k0 < K) (hd : ¬ st (8 * a + k0) = st (8 * b + k0)) (hl : ∀ j, f ≤ j → j < k0 → ¬ ¬ st (8 * a + j) = st (8 * b + j)) (h : post (nI k0)) : ∀ n s t, k0 - s < n → f ≤ s → s ≤ k0 → t ≤ s → wX_firstDifference_6 post (nI a) (nI b) (nI K) (nI Lq) (nI Rq) (nI Wq) (nI um) (nI sm) st tr wv wp nc nt nk ns mt mf mo mk ms ch ck cs so sa sb sd sc n (nI s) (nI t) := by
  intro n
  induction n with
  | zero => intro s t h1; omega
  | succ n ih =>
    intro s t h1 h2 h3 h4
    refine br_f (nI_ge (b := 8) (by omega) (by decide)) (br_f (nI_ge (by omega) (by omega)) ?_)
    refine xes ha hb (by omega) hT hS (fun c => br_t rfl ?_) (fun p l1 l2 l3 l4 => br_f (nI_ne0 (by omega) (by omega)) (nm_r (nI_add s p) (nm_r (nI_1 t) ?_)))
    · by_cases e : s = k0
      · rw [e]; exact h
      · exact absurd c (hl s h2 (by omega))
    · have l5 : s + p ≤ k0 := by
        by_cases e : s + p ≤ k0
        · exact e
        · exact absurd (l4 k0 h3 (by omega)) hd
      exact ih (s + p) (t + 1) (by omega) (by omega) l5 (by omega)
theorem xfd_f {a b f : Nat} (ha : a < 4) (hb : b < 4) (hK : K ≤ 8) (hT : hr_TR st tr) (hS : hr_ST K M wp st) (hl : ∀ j, f ≤ j → j < K → ¬ ¬ st (8 * a + j) = st (8 * b + j)) (h : post (-1)) : ∀ n s t, 8 - s < n → f ≤ s → s ≤ 8 → t ≤ s → wX_firstDifference_6 post (nI a) (nI b) (nI K) (nI Lq) (nI Rq) (nI Wq) (nI um) (nI sm) st tr wv wp nc nt nk ns mt mf mo mk ms ch ck cs so sa sb sd sc n (nI s) (nI t) := by
  intro n
  induction n with
  | zero => intro s t h1; omega
  | succ n ih =>
    intro s t h1 h2 h3 h4
    by_cases c8 : 8 ≤ t
    · exact br_t (nI_le (a := 8) c8 (by omega)) h
    · refine br_f (nI_ge (b := 8) (by omega) (by decide)) ?_
      by_cases cK : K ≤ s
      · exact br_t (nI_le cK (by omega)) h
      · refine br_f (nI_ge (by omega) (by omega)) ?_
        refine xes ha hb (by omega) hT hS (fun c => absurd c (hl s h2 (by omega))) (fun p l1 l2 l3 l4 => br_f (nI_ne0 (by omega) (by omega)) (nm_r (nI_add s p) (nm_r (nI_1 t) ?_)))
        exact ih (s + p) (t + 1) (by omega) (by omega) l3 (by omega)
theorem xfd1 {a b k0 f : Nat} (ha : a < 4) (hb : b < 4) (hK : K ≤ 8) (hT : hr_TR st tr) (hS : hr_ST K M wp st) (hf : f ≤ k0) (hk : k0 < K) (hd : ¬ st (8 * a + k0) = st (8 * b + k0)) (hl : ∀ j, f ≤ j → j < k0 → ¬ ¬ st (8 * a + j) = st (8 * b + j)) (h : post (nI k0)) : wpX_firstDifference post (nI K, nI Lq, nI Rq, nI Wq, nI um, nI sm, st, tr, wv, wp, nc, nt, nk, ns, mt, mf, mo, mk, ms, ch, ck, cs, so, sa, sb, sd, sc) (nI a) (nI b) (nI f) :=
  ⟨k0 + 1, xfd_t ha hb hK hT hS hk hd hl h (k0 + 1) f 0 (by omega) (Nat.le_refl _) hf (Nat.zero_le _)⟩
theorem xfd0 {a b f : Nat} (ha : a < 4) (hb : b < 4) (hK : K ≤ 8) (hT : hr_TR st tr) (hS : hr_ST K M wp st) (hf : f ≤ 8) (hl : ∀ j, f ≤ j → j < K → ¬ ¬ st (8 * a + j) = st (8 * b + j)) (h : post (-1)) : wpX_firstDifference post (nI K, nI Lq, nI Rq, nI Wq, nI um, nI sm, st, tr, wv, wp, nc, nt, nk, ns, mt, mf, mo, mk, ms, ch, ck, cs, so, sa, sb, sd, sc) (nI a) (nI b) (nI f) :=
  ⟨9, xfd_f ha hb hK hT hS hl h 9 f 0 (by omega) (Nat.le_refl _) hf (Nat.zero_le _)⟩
/-- due: a receiver would grow -/
def hr_du (m : Nat) (x y : Int32) : Prop := ¬ x = y ∧ (m = 1 → ¬ hr_mg x y = y) ∧ (m = 2 → ¬ hr_mg x y = x)
theorem xid {a b k m : Nat} (ha : a < 4) (hb : b < 4) (hk : k < 8) (hm : m < 3) (hS : hr_ST K M wp st) (hd : ¬ st (8 * a + k) = st (8 * b + k)) (h1 : hr_du m (st (8 * a + k)) (st (8 * b + k)) → post 1) (h0 : ¬ hr_du m (st (8 * a + k)) (st (8 * b + k)) → post 0) : wpX_isDue post (nI K, nI Lq, nI Rq, nI Wq, nI um, nI sm, st, tr, wv, wp, nc, nt, nk, ns, mt, mf, mo, mk, ms, ch, ck, cs, so, sa, sb, sd, sc) (nI a) (nI b) (nI m) (nI k) := by
  have ea := hr_x8 a k
  have eb := hr_x8 b k
  by_cases c0 : m = 0
  · subst c0
    exact br_t rfl (h1 ⟨hd, fun z => absurd z (by decide), fun z => absurd z (by decide)⟩)
  · refine br_f (nI_ne0 (by omega) (by omega)) ⟨hr_in8 ha hk ea, nm_r (hr_rd st ea (by omega)) ⟨hr_in8 hb hk eb, nm_r (hr_rd st eb (by omega)) (xm (hS.1 a ha k hk).1 ?_)⟩⟩
    by_cases c1 : m = 1
    · subst c1
      refine br_t rfl ?_
      by_cases e : hr_mg (st (8 * a + k)) (st (8 * b + k)) = st (8 * b + k)
      · exact br_t e (h0 (fun z => z.2.1 rfl e))
      · exact br_f e (h1 ⟨hd, fun _ => e, fun z => absurd z (by decide)⟩)
    · have c2 : m = 2 := by omega
      subst c2
      refine br_f (by decide) ?_
      by_cases e : hr_mg (st (8 * a + k)) (st (8 * b + k)) = st (8 * a + k)
      · exact br_t e (h0 (fun z => z.2.2 rfl e))
      · exact br_f e (h1 ⟨hd, fun z => absurd z (by decide), fun _ => e⟩)
theorem xnd_t {a b k0 f m : Nat} (ha : a < 4) (hb : b < 4) (hK : K ≤ 8) (hm : m < 3) (hT : hr_TR st tr) (hS : hr_ST K M wp st) (hk : k0 < K) (hd : hr_du m (st (8 * a + k0)) (st (8 * b + k0))) (hl : ∀ j, f ≤ j → j < k0 → ¬ hr_du m (st (8 * a + j)) (st (8 * b + j))) (h : post (nI k0)) : ∀ n s t, k0 - s < n → f ≤ s → s ≤ k0 → t ≤ s → wX_nextDue_7 post (nI a) (nI b) (nI m) (nI K) (nI Lq) (nI Rq) (nI Wq) (nI um) (nI sm) st tr wv wp nc nt nk ns mt mf mo mk ms ch ck cs so sa sb sd sc n (nI s) (nI t) := by
  intro n
  induction n with
  | zero => intro s t h1; omega
  | succ n ih =>
    intro s t h1 h2 h3 h4
    refine br_f (nI_ge (b := 8) (by omega) (by decide)) ?_
    rcases hr_least (fun j => ¬ st (8 * a + j) = st (8 * b + j)) s K with ⟨k1, l1, l2, l3, l4⟩ | hn
    · have l5 : k1 ≤ k0 := by
        by_cases e : k1 ≤ k0
        · exact e
        · exact absurd hd.1 (l4 k0 h3 (by omega))
      refine xfd1 ha hb hK hT hS l1 l2 l3 l4 (br_f (hr_m1 (by omega)) (xid ha hb (by omega) hm hS l3 (fun c => br_f hr_10 ?_) (fun c => br_t rfl (nm_r (nI_1 k1) (nm_r (nI_1 t) ?_)))))
      · by_cases e : k1 = k0
        · rw [e]; exact h
        · exact absurd c (hl k1 (by omega) (by omega))
      · have l6 : k1 ≠ k0 := fun z => c (by rw [z]; exact hd)
        exact ih (k1 + 1) (t + 1) (by omega) (by omega) (by omega) (by omega)
    · exact absurd hd.1 (hn k0 h3 hk)
theorem xnd_f {a b f m : Nat} (ha : a < 4) (hb : b < 4) (hK : K ≤ 8) (hm : m < 3) (hT : hr_TR st tr) (hS : hr_ST K M wp st) (hl : ∀ j, f ≤ j → j < K → ¬ hr_du m (st (8 * a + j)) (st (8 * b + j))) (h : post (-1)) : ∀ n s t, 8 - s < n → f ≤ s → s ≤ 8 → t ≤ s → wX_nextDue_7 post (nI a) (nI b) (nI m) (nI K) (nI Lq) (nI Rq) (nI Wq) (nI um) (nI sm) st tr wv wp nc nt nk ns mt mf mo mk ms ch ck cs so sa sb sd sc n (nI s) (nI t) := by
  intro n
  induction n with
  | zero => intro s t h1; omega
  | succ n ih =>
    intro s t h1 h2 h3 h4
    by_cases c8 : 8 ≤ t
    · exact br_t (nI_le (a := 8) c8 (by omega)) h
    · refine br_f (nI_ge (b := 8) (by omega) (by decide)) ?_
      rcases hr_least (fun j => ¬ st (8 * a + j) = st (8 * b + j)) s K with ⟨k1, l1, l2, l3, l4⟩ | hn
      · refine xfd1 ha hb hK hT hS l1 l2 l3 l4 (br_f (hr_m1 (by omega)) (xid ha hb (by omega) hm hS l3 (fun c => absurd c (hl k1 (by omega) l2)) (fun c => br_t rfl (nm_r (nI_1 k1) (nm_r (nI_1 t) ?_)))))
        exact ih (k1 + 1) (t + 1) (by omega) (by omega) (by omega) (by omega)
      · exact xfd0 ha hb hK hT hS h3 hn (br_t rfl h)
theorem hr_du_iff {m k : Nat} (hm : m < 3) {x y : Int32} (hx : hr_WF M wp k x) (hy : hr_WF M wp k y) : hr_du m x y ↔ ((¬ m = 2 ∧ ¬ hr_mg x y = y) ∨ (¬ m = 1 ∧ ¬ hr_mg x y = x)) := by
  have e1 : x = y → hr_mg x y = y ∧ hr_mg x y = x := by
    intro z
    subst z
    exact ⟨hr_mg_self hx.1, hr_mg_self hx.1⟩
  unfold hr_du
  constructor
  · intro ⟨h1, h2, h3⟩
    by_cases c2 : m = 2
    · exact Or.inr ⟨by omega, h3 c2⟩
    · by_cases c1 : m = 1
      · exact Or.inl ⟨c2, h2 c1⟩
      · by_cases z : hr_mg x y = y
        · exact Or.inr ⟨c1, fun q => h1 (q.symm.trans z)⟩
        · exact Or.inl ⟨c2, z⟩
  · intro h
    rcases h with ⟨h1, h2⟩ | ⟨h1, h2⟩
    · exact ⟨fun z => h2 (e1 z).1, fun _ => h2, fun z => absurd z h1⟩
    · exact ⟨fun z => h2 (e1 z).2, fun z => absurd z h1, fun _ => h2⟩
theorem yd_step {a b k m f n : Nat} (ha : a < 4) (hb : b < 4) (hK : K ≤ 8) (hk : k < K) (hm : m < 3) (hf : f ≤ 8) (hS : hr_ST K M wp st) (h1 : f ≤ k → hr_du m (st (8 * a + k)) (st (8 * b + k)) → post (nI k)) (h0 : (k < f ∨ ¬ hr_du m (st (8 * a + k)) (st (8 * b + k))) → wY_due_3 post (nI a) (nI b) (nI m) (nI f) (nI K) (nI Lq) (nI Rq) (nI Wq) md wv (hr_F wp) (hr_F st) (hr_B um) (hr_B sm) nc nt nk (hr_F ns) mt mf mo mk (hr_F ms) ch ck (hr_F cs) so sa sb sd sc n (nI (k + 1))) : wY_due_3 post (nI a) (nI b) (nI m) (nI f) (nI K) (nI Lq) (nI Rq) (nI Wq) md wv (hr_F wp) (hr_F st) (hr_B um) (hr_B sm) nc nt nk (hr_F ns) mt mf mo mk (hr_F ms) ch ck (hr_F cs) so sa sb sd sc (n + 1) (nI k) := by
  have ea := hr_y8 a k
  have eb := hr_y8 b k
  have wa := hS.1 a ha k (by omega)
  have wb := hS.1 b hb k (by omega)
  have mA := hr_more wa wb
  have mB := hr_more wb wa
  rw [hr_mg_comm] at mB
  have du := hr_du_iff hm wa wb
  have m1 : nI m = 1 ↔ m = 1 := nI_eq (b := 1) (by omega) (by decide)
  have m2 : nI m = 2 ↔ m = 2 := nI_eq (b := 2) (by omega) (by decide)
  have ra : hr_F st (nI a * 8 + nI k).toNatClampNeg = hr_bf (st (8 * a + k)) := hr_rd (hr_F st) ea (by omega)
  have rb : hr_F st (nI b * 8 + nI k).toNatClampNeg = hr_bf (st (8 * b + k)) := hr_rd (hr_F st) eb (by omega)
  refine br_f (nI_ge hk (by omega)) ⟨hr_in8 ha (by omega) ea, nm_r ra ⟨hr_in8 hb (by omega) eb, nm_r rb ?_⟩⟩
  have last : ∀ (A B : Int32), (A = 0 ↔ hr_mg (st (8 * a + k)) (st (8 * b + k)) = st (8 * b + k)) → (B = 0 ↔ hr_mg (st (8 * a + k)) (st (8 * b + k)) = st (8 * a + k)) → wY_due_72 post (wY_due_3 post (nI a) (nI b) (nI m) (nI f) (nI K) (nI Lq) (nI Rq) (nI Wq) md wv (hr_F wp) (hr_F st) (hr_B um) (hr_B sm) nc nt nk (hr_F ns) mt mf mo mk (hr_F ms) ch ck (hr_F cs) so sa sb sd sc n) (nI a) (nI b) (nI m) (nI f) (nI k) A B (nI K) (nI Lq) (nI Rq) (nI Wq) md wv (hr_F wp) (hr_F st) (hr_B um) (hr_B sm) nc nt nk (hr_F ns) mt mf mo mk (hr_F ms) ch ck (hr_F cs) so sa sb sd sc := by
    intro A B hA hB
    by_cases cf : k < f
    · exact br_t (nI_lt cf (by omega)) (nm_r (nI_1 k) (h0 (Or.inl cf)))
    · refine br_f (nI_nlt (by omega) (by omega)) ?_
      have l91 : (m = 2 ∨ A = 0) → wY_due_91 post (wY_due_3 post (nI a) (nI b) (nI m) (nI f) (nI K) (nI Lq) (nI Rq) (nI Wq) md wv (hr_F wp) (hr_F st) (hr_B um) (hr_B sm) nc nt nk (hr_F ns) mt mf mo mk (hr_F ms) ch ck (hr_F cs) so sa sb sd sc n) (nI a) (nI b) (nI m) (nI f) (nI k) B (nI K) (nI Lq) (nI Rq) (nI Wq) md wv (hr_F wp) (hr_F st) (hr_B um) (hr_B sm) nc nt nk (hr_F ns) mt mf mo mk (hr_F ms) ch ck (hr_F cs) so sa sb sd sc := by
        intro hA2
        have na : ¬ (¬ m = 2 ∧ ¬ hr_mg (st (8 * a + k)) (st (8 * b + k)) = st (8 * b + k)) := by
          intro ⟨z1, z2⟩
          rcases hA2 with q | q
          · exact z1 q
          · exact z2 (hA.mp q)
        by_cases c1 : m = 1
        · refine br_t (m1.mpr c1) (nm_r (nI_1 k) (h0 (Or.inr ?_)))
          rw [du]
          intro z
          rcases z with z | z
          · exact na z
          · exact z.1 c1
        · refine br_f (fun z => c1 (m1.mp z)) ?_
          by_cases cB : B = 0
          · refine br_t cB (nm_r (nI_1 k) (h0 (Or.inr ?_)))
            rw [du]
            intro z
            rcases z with z | z
            · exact na z
            · exact z.2 (hB.mp cB)
          · exact br_f cB (h1 (by omega) (du.mpr (Or.inr ⟨c1, fun z => cB (hB.mpr z)⟩)))
      by_cases c2 : m = 2
      · exact br_t (m2.mpr c2) (l91 (Or.inl c2))
      · refine br_f (fun z => c2 (m2.mp z)) ?_
        by_cases cA : A = 0
        · exact br_t cA (l91 (Or.inr cA))
        · exact br_f cA (h1 (by omega) (du.mpr (Or.inl ⟨c2, fun z => cA (hA.mpr z)⟩)))
  have l55 : ∀ (A : Int32), (A = 0 ↔ hr_mg (st (8 * a + k)) (st (8 * b + k)) = st (8 * b + k)) → wY_due_55 post (wY_due_3 post (nI a) (nI b) (nI m) (nI f) (nI K) (nI Lq) (nI Rq) (nI Wq) md wv (hr_F wp) (hr_F st) (hr_B um) (hr_B sm) nc nt nk (hr_F ns) mt mf mo mk (hr_F ms) ch ck (hr_F cs) so sa sb sd sc n) (nI a) (nI b) (nI m) (nI f) (nI k) (hr_bf (st (8 * a + k))) (hr_bf (st (8 * b + k))) A (nI K) (nI Lq) (nI Rq) (nI Wq) md wv (hr_F wp) (hr_F st) (hr_B um) (hr_B sm) nc nt nk (hr_F ns) mt mf mo mk (hr_F ms) ch ck (hr_F cs) so sa sb sd sc := by
    intro A hA
    by_cases c : (hr_bf (st (8 * b + k)) &&& (hr_bf (st (8 * a + k)) ^^^ (-1))) = 0
    · exact br_t c (last A 0 hA ⟨fun _ => mB.mp c, fun _ => rfl⟩)
    · exact br_f c (last A 1 hA ⟨fun z => absurd z hr_10, fun z => absurd (mB.mpr z) c⟩)
  by_cases c : (hr_bf (st (8 * a + k)) &&& (hr_bf (st (8 * b + k)) ^^^ (-1))) = 0
  · exact br_t c (l55 0 ⟨fun _ => mA.mp c, fun _ => rfl⟩)
  · exact br_f c (l55 1 ⟨fun z => absurd z hr_10, fun z => absurd (mA.mpr z) c⟩)
theorem yd_t {a b k0 m f : Nat} (ha : a < 4) (hb : b < 4) (hK : K ≤ 8) (hm : m < 3) (hf : f ≤ k0) (hS : hr_ST K M wp st) (hk : k0 < K) (hd : hr_du m (st (8 * a + k0)) (st (8 * b + k0))) (hl : ∀ j, f ≤ j → j < k0 → ¬ hr_du m (st (8 * a + j)) (st (8 * b + j))) (h : post (nI k0)) : ∀ d k, k + d = k0 → wY_due_3 post (nI a) (nI b) (nI m) (nI f) (nI K) (nI Lq) (nI Rq) (nI Wq) md wv (hr_F wp) (hr_F st) (hr_B um) (hr_B sm) nc nt nk (hr_F ns) mt mf mo mk (hr_F ms) ch ck (hr_F cs) so sa sb sd sc (d + 1) (nI k) := by
  intro d
  induction d with
  | zero =>
    intro k hkk
    obtain rfl : k = k0 := by omega
    refine yd_step ha hb hK hk hm (by omega) hS (fun _ _ => h) (fun z => ?_)
    rcases z with z | z
    · omega
    · exact absurd hd z
  | succ d ih =>
    intro k hkk
    refine yd_step ha hb hK (by omega) hm (by omega) hS (fun z1 z2 => absurd z2 (hl k z1 (by omega))) (fun _ => ih (k + 1) (by omega))
theorem yd_f {a b m f : Nat} (ha : a < 4) (hb : b < 4) (hK : K ≤ 8) (hm : m < 3) (hf : f ≤ 8) (hS : hr_ST K M wp st) (hl : ∀ j, f ≤ j → j < K → ¬ hr_du m (st (8 * a + j)) (st (8 * b + j))) (h : post (-1)) : ∀ d k, k + d = K → wY_due_3 post (nI a) (nI b) (nI m) (nI f) (nI K) (nI Lq) (nI Rq) (nI Wq) md wv (hr_F wp) (hr_F st) (hr_B um) (hr_B sm) nc nt nk (hr_F ns) mt mf mo mk (hr_F ms) ch ck (hr_F cs) so sa sb sd sc (d + 1) (nI k) := by
  intro d
  induction d with
  | zero =>
    intro k hkk
    obtain rfl : k = K := by omega
    exact br_t (nI_le (Nat.le_refl _) (by omega)) h
  | succ d ih =>
    intro k hkk
    refine yd_step ha hb hK (by omega) hm (by omega) hS (fun z1 z2 => absurd z2 (hl k z1 (by omega))) (fun _ => ih (k + 1) (by omega))
theorem ynd_t {a b k0 : Nat} (ha : a < 4) (hb : b < 4) (hK : K ≤ 8) (hS : hr_ST K M wp st) (hk : k0 < K) (hd : ¬ st (8 * a + k0) = st (8 * b + k0)) (h : post (nI k0)) : ∀ d k, k + d = k0 → (∀ j, k ≤ j → j < k0 → ¬ ¬ st (8 * a + j) = st (8 * b + j)) → wY_nextDifference_36 post (nI a) (nI b) (nI K) (nI Lq) (nI Rq) (nI Wq) md wv (hr_F wp) (hr_F st) (hr_B um) (hr_B sm) nc nt nk (hr_F ns) mt mf mo mk (hr_F ms) ch ck (hr_F cs) so sa sb sd sc (d + 1) (nI k) := by
  intro d
  induction d with
  | zero =>
    intro k hkk _
    obtain rfl : k = k0 := by omega
    refine br_f (nI_ge hk (by omega)) ⟨hr_in8 ha (by omega) (hr_y8 a k), hr_in8 hb (by omega) (hr_y8 b k), br_f ?_ h⟩
    rw [hr_cl (hr_y8 a k) (by omega), hr_cl (hr_y8 b k) (by omega)]
    exact fun z => hd (hr_WF_bf (hS.1 a ha k (by omega)) (hS.1 b hb k (by omega)) z)
  | succ d ih =>
    intro k hkk hl
    refine br_f (nI_ge (by omega) (by omega)) ⟨hr_in8 ha (by omega) (hr_y8 a k), hr_in8 hb (by omega) (hr_y8 b k), br_t ?_ (nm_r (nI_1 k) (ih (k + 1) (by omega) (fun j h1 h2 => hl j (by omega) h2)))⟩
    rw [hr_cl (hr_y8 a k) (by omega), hr_cl (hr_y8 b k) (by omega)]
    exact congrArg hr_bf (Classical.byContradiction (hl k (Nat.le_refl _) (by omega)))
theorem ynd_f {a b : Nat} (ha : a < 4) (hb : b < 4) (hK : K ≤ 8) (h : post (-1)) : ∀ d k, k + d = K → (∀ j, k ≤ j → j < K → ¬ ¬ st (8 * a + j) = st (8 * b + j)) → wY_nextDifference_36 post (nI a) (nI b) (nI K) (nI Lq) (nI Rq) (nI Wq) md wv (hr_F wp) (hr_F st) (hr_B um) (hr_B sm) nc nt nk (hr_F ns) mt mf mo mk (hr_F ms) ch ck (hr_F cs) so sa sb sd sc (d + 1) (nI k) := by
  intro d
  induction d with
  | zero =>
    intro k hkk _
    obtain rfl : k = K := by omega
    exact br_t (nI_le (Nat.le_refl _) (by omega)) h
  | succ d ih =>
    intro k hkk hl
    refine br_f (nI_ge (by omega) (by omega)) ⟨hr_in8 ha (by omega) (hr_y8 a k), hr_in8 hb (by omega) (hr_y8 b k), br_t ?_ (nm_r (nI_1 k) (ih (k + 1) (by omega) (fun j h1 h2 => hl j (by omega) h2)))⟩
    rw [hr_cl (hr_y8 a k) (by omega), hr_cl (hr_y8 b k) (by omega)]
    exact congrArg hr_bf (Classical.byContradiction (hl k (Nat.le_refl _) (by omega)))
end
end
section
/-! reconciling, sessions, gossip: in lockstep -/
def hr_rcs (m a b k : Nat) (st : Nat → Int32) : Nat → Int32 :=
  if m = 2 then upd st (8 * a + k) (hr_mg (st (8 * a + k)) (st (8 * b + k)))
  else if m = 1 then upd st (8 * b + k) (hr_mg (st (8 * a + k)) (st (8 * b + k)))
  else upd (upd st (8 * b + k) (hr_mg (st (8 * a + k)) (st (8 * b + k)))) (8 * a + k) (hr_mg (st (8 * a + k)) (st (8 * b + k)))
theorem hr_rcs_2 (a b k : Nat) (st : Nat → Int32) : hr_rcs 2 a b k st = upd st (8 * a + k) (hr_mg (st (8 * a + k)) (st (8 * b + k))) := rfl
theorem hr_rcs_1 (a b k : Nat) (st : Nat → Int32) : hr_rcs 1 a b k st = upd st (8 * b + k) (hr_mg (st (8 * a + k)) (st (8 * b + k))) := rfl
theorem hr_rcs_0 (a b k : Nat) (st : Nat → Int32) : hr_rcs 0 a b k st = upd (upd st (8 * b + k) (hr_mg (st (8 * a + k)) (st (8 * b + k)))) (8 * a + k) (hr_mg (st (8 * a + k)) (st (8 * b + k))) := rfl
theorem hr_m3 {m : Nat} (hm : m < 3) : m = 2 ∨ m = 1 ∨ m = 0 := by omega
theorem hr_ST_rcs {K : Nat} {M : Nat → Nat → Nat} {wp st : Nat → Int32} (h : hr_ST K M wp st) {m a b k : Nat} (hm : m < 3) (ha : a < 4) (hb : b < 4) (hk : k < K) (hK : K ≤ 8) : hr_ST K M wp (hr_rcs m a b k st) := by
  have wa := h.1 a ha k (by omega)
  have wb := h.1 b hb k (by omega)
  have s2 := hr_ST_mg h ha hk hK wb
  have s1 := hr_ST_mg h hb hk hK wa
  rw [hr_mg_comm] at s1
  rcases hr_m3 hm with c | c | c
  · subst c
    exact s2
  · subst c
    exact s1
  · subst c
    rw [hr_rcs_0]
    refine hr_ST_upd s1 ha hk hK (hr_WF_mg wa wb) ?_
    rw [hr_mg_ln _ _ (show a < 8 by omega), h.2.1 a ha k (by omega)]
    have := (wb.2 a ha).1
    omega
section
variable {K Lq Rq Wq um sm : Nat} {M : Nat → Nat → Nat} {st wv wp nc nt nk ns mt mf mo mk ms ch ck cs so sa sb sd sc md : Nat → Int32} {tr : Nat → Int64}
theorem xrec {post : SX → Prop} {m a b k : Nat} (hm : m < 3) (ha : a < 4) (hb : b < 4) (hk : k < 8) (hT : hr_TR st tr) (ho : (st (8 * a + k)).toBitVec.toNat < 2 ^ 24) (h : ∀ tr', hr_TR (hr_rcs m a b k st) tr' → post (nI K, nI Lq, nI Rq, nI Wq, nI um, nI sm, hr_rcs m a b k st, tr', wv, wp, nc, nt, nk, ns, mt, mf, mo, mk, ms, ch, ck, cs, so, sa, sb, sd, sc)) : wpX_reconcile post (nI K, nI Lq, nI Rq, nI Wq, nI um, nI sm, st, tr, wv, wp, nc, nt, nk, ns, mt, mf, mo, mk, ms, ch, ck, cs, so, sa, sb, sd, sc) (nI a) (nI b) (nI m) (nI k) := by
  have ea := hr_x8 a k
  have eb := hr_x8 b k
  refine ⟨hr_in8 ha hk ea, hr_in8 hb hk eb, ?_⟩
  rw [hr_cl ea (by omega), hr_cl eb (by omega)]
  refine xm ho ?_
  rcases hr_m3 hm with c | c | c
  · subst c
    exact br_t rfl (br_f (by decide) (xst ha hk hT rfl rfl h))
  · subst c
    exact br_f (by decide) (xst hb hk hT rfl rfl (fun tr' ht' => br_t rfl (h tr' ht')))
  · subst c
    exact br_f (by decide) (xst hb hk hT rfl rfl (fun tr' ht' => br_f (by decide) (xst ha hk ht' rfl rfl h)))
theorem xnd1 {post : Int32 → Prop} {p : Int32} {a b k0 f m : Nat} (ha : a < 4) (hb : b < 4) (hK : K ≤ 8) (hm : m < 3) (hT : hr_TR st tr) (hS : hr_ST K M wp st) (hp : p = nI f) (hf : f ≤ k0) (hk : k0 < K) (hd : hr_du m (st (8 * a + k0)) (st (8 * b + k0))) (hl : ∀ j, f ≤ j → j < k0 → ¬ hr_du m (st (8 * a + j)) (st (8 * b + j))) (h : post (nI k0)) : wpX_nextDue post (nI K, nI Lq, nI Rq, nI Wq, nI um, nI sm, st, tr, wv, wp, nc, nt, nk, ns, mt, mf, mo, mk, ms, ch, ck, cs, so, sa, sb, sd, sc) (nI a) (nI b) (nI m) p := by
  subst hp
  exact ⟨k0 + 1, xnd_t ha hb hK hm hT hS hk hd hl h (k0 + 1) f 0 (by omega) (Nat.le_refl _) hf (Nat.zero_le _)⟩
theorem xnd0 {post : Int32 → Prop} {p : Int32} {a b f m : Nat} (ha : a < 4) (hb : b < 4) (hK : K ≤ 8) (hm : m < 3) (hT : hr_TR st tr) (hS : hr_ST K M wp st) (hp : p = nI f) (hf : f ≤ 8) (hl : ∀ j, f ≤ j → j < K → ¬ hr_du m (st (8 * a + j)) (st (8 * b + j))) (h : post (-1)) : wpX_nextDue post (nI K, nI Lq, nI Rq, nI Wq, nI um, nI sm, st, tr, wv, wp, nc, nt, nk, ns, mt, mf, mo, mk, ms, ch, ck, cs, so, sa, sb, sd, sc) (nI a) (nI b) (nI m) p := by
  subst hp
  exact ⟨9, xnd_f ha hb hK hm hT hS hl h 9 f 0 (by omega) (Nat.le_refl _) hf (Nat.zero_le _)⟩
theorem yd1 {post : Int32 → Prop} {p : Int32} {a b k0 f m : Nat} (ha : a < 4) (hb : b < 4) (hK : K ≤ 8) (hm : m < 3) (hS : hr_ST K M wp st) (hp : p = nI f) (hf : f ≤ k0) (hk : k0 < K) (hd : hr_du m (st (8 * a + k0)) (st (8 * b + k0))) (hl : ∀ j, f ≤ j → j < k0 → ¬ hr_du m (st (8 * a + j)) (st (8 * b + j))) (h : post (nI k0)) : wpY_due post (nI K, nI Lq, nI Rq, nI Wq, md, wv, hr_F wp, hr_F st, hr_B um, hr_B sm, nc, nt, nk, hr_F ns, mt, mf, mo, mk, hr_F ms, ch, ck, hr_F cs, so, sa, sb, sd, sc) (nI a) (nI b) (nI m) p := by
  subst hp
  exact ⟨k0 + 1, yd_t ha hb hK hm hf hS hk hd hl h k0 0 (by omega)⟩
theorem yd0 {post : Int32 → Prop} {p : Int32} {a b f m : Nat} (ha : a < 4) (hb : b < 4) (hK : K ≤ 8) (hm : m < 3) (hS : hr_ST K M wp st) (hp : p = nI f) (hf : f ≤ 8) (hl : ∀ j, f ≤ j → j < K → ¬ hr_du m (st (8 * a + j)) (st (8 * b + j))) (h : post (-1)) : wpY_due post (nI K, nI Lq, nI Rq, nI Wq, md, wv, hr_F wp, hr_F st, hr_B um, hr_B sm, nc, nt, nk, hr_F ns, mt, mf, mo, mk, hr_F ms, ch, ck, hr_F cs, so, sa, sb, sd, sc) (nI a) (nI b) (nI m) p := by
  subst hp
  exact ⟨K + 1, yd_f ha hb hK hm hf hS hl h K 0 (by omega)⟩
theorem ystep {post : Int32 → SY → Prop} {J : Int32 → Int32 → (Nat → Int32) → (Nat → Int32) → (Nat → Int32) → (Nat → Int32) → (Nat → Int32) → (Nat → Int32) → (Nat → Int32) → (Nat → Int32) → (Nat → Int32) → (Nat → Int32) → (Nat → Int32) → (Nat → Int32) → (Nat → Int32) → (Nat → Int32) → (Nat → Int32) → (Nat → Int32) → (Nat → Int32) → (Nat → Int32) → (Nat → Int32) → (Nat → Int32) → (Nat → Int32) → (Nat → Int32) → (Nat → Int32) → Prop} {s a b m c t k : Nat} {p1 : Int32} (hs4 : s < 4) (ha : a < 4) (hb : b < 4) (hm : m < 3) (hk : k < 8) (h : J (nI (c + 1)) (nI (t + 1)) md wv (hr_F wp) (hr_F (hr_rcs m a b k st)) (hr_B um) (hr_B sm) nc nt nk (hr_F ns) mt mf mo mk (hr_F ms) ch ck (hr_F cs) so sa sb sd (upd sc s (nI (k + 1)))) :
    (nI m = 2 → wY_stepRepair_168 post J (nI s) p1 (nI a) (nI b) (nI m) (nI c) (nI t) (nI k) (hr_bf (hr_mg (st (8 * a + k)) (st (8 * b + k)))) (nI K) (nI Lq) (nI Rq) (nI Wq) md wv (hr_F wp) (hr_F st) (hr_B um) (hr_B sm) nc nt nk (hr_F ns) mt mf mo mk (hr_F ms) ch ck (hr_F cs) so sa sb sd sc) ∧ (¬ nI m = 2 → (vp_in (nI b * 8 + nI k) 32 ∧ ∀ q, q = upd (hr_F st) (nI b * 8 + nI k).toNatClampNeg (hr_bf (hr_mg (st (8 * a + k)) (st (8 * b + k)))) → wY_stepRepair_168 post J (nI s) p1 (nI a) (nI b) (nI m) (nI c) (nI t) (nI k) (hr_bf (hr_mg (st (8 * a + k)) (st (8 * b + k)))) (nI K) (nI Lq) (nI Rq) (nI Wq) md wv (hr_F wp) q (hr_B um) (hr_B sm) nc nt nk (hr_F ns) mt mf mo mk (hr_F ms) ch ck (hr_F cs) so sa sb sd sc)) := by
  have ea := hr_y8 a k
  have eb := hr_y8 b k
  have l188 : ∀ st' : Nat → Int32, st' = hr_F (hr_rcs m a b k st) → wY_stepRepair_188 post J (nI s) p1 (nI a) (nI b) (nI m) (nI c) (nI t) (nI k) (nI K) (nI Lq) (nI Rq) (nI Wq) md wv (hr_F wp) st' (hr_B um) (hr_B sm) nc nt nk (hr_F ns) mt mf mo mk (hr_F ms) ch ck (hr_F cs) so sa sb sd sc := by
    intro st' e
    subst e
    exact ⟨hr_in4 rfl hs4, nm_r (hr_wr sc rfl (by omega) (nI_1 k)) (nm_r (nI_1 c) (nm_r (nI_1 t) h))⟩
  have wa : ∀ q : Nat → Int32, upd (hr_F q) (nI a * 8 + nI k).toNatClampNeg (hr_bf (hr_mg (st (8 * a + k)) (st (8 * b + k)))) = hr_F (upd q (8 * a + k) (hr_mg (st (8 * a + k)) (st (8 * b + k)))) := by
    intro q
    rw [hr_cl ea (by omega), hr_F_upd]
  have wb : ∀ q : Nat → Int32, upd (hr_F q) (nI b * 8 + nI k).toNatClampNeg (hr_bf (hr_mg (st (8 * a + k)) (st (8 * b + k)))) = hr_F (upd q (8 * b + k) (hr_mg (st (8 * a + k)) (st (8 * b + k)))) := by
    intro q
    rw [hr_cl eb (by omega), hr_F_upd]
  rcases hr_m3 hm with z | z | z
  · subst z
    exact br_t rfl (br_f (by decide) ⟨hr_in8 ha hk ea, nm_r (wa st) (l188 _ rfl)⟩)
  · subst z
    exact br_f (by decide) ⟨hr_in8 hb hk eb, nm_r (wb st) (br_t rfl (l188 _ rfl))⟩
  · subst z
    exact br_f (by decide) ⟨hr_in8 hb hk eb, nm_r (wb st) (br_f (by decide) ⟨hr_in8 ha hk ea, nm_r (wa _) (l188 _ rfl)⟩)⟩
end
section
variable {K Lq Rq Wq um sm : Nat} {M : Nat → Nat → Nat} {st wv wp nc nt nk ns mt mf mo mk ms ch ck cs so sa sb sd sc md : Nat → Int32} {tr : Nat → Int64}
theorem hr_step {s a b m mx : Nat} (hs4 : s < 4) (ha : a < 4) (hb : b < 4) (hm : m < 3) (hK : K ≤ 8) (hmx : mx < 2 ^ 31) : ∀ (d t c : Nat) (st sc : Nat → Int32), t + d = 9 → c ≤ t → c ≤ mx → hr_ST K M wp st → hr_NB 9 sc →
    ∃ (c' : Nat) (st' so' sc' : Nat → Int32), hr_ST K M wp st' ∧ hr_NB 9 sc' ∧
      (∀ tr, hr_TR st tr → ∀ post : Int32 → SX → Prop, (∀ tr', hr_TR st' tr' → post (nI c') (nI K, nI Lq, nI Rq, nI Wq, nI um, nI sm, st', tr', wv, wp, nc, nt, nk, ns, mt, mf, mo, mk, ms, ch, ck, cs, so', sa, sb, sd, sc')) → wX_stepRepair_70 post (nI s) (nI mx) (nI a) (nI b) (nI m) (d + 1) (nI c) (nI t) (nI K) (nI Lq) (nI Rq) (nI Wq) (nI um) (nI sm) st tr wv wp nc nt nk ns mt mf mo mk ms ch ck cs so sa sb sd sc) ∧
      (∀ post : Int32 → SY → Prop, post (nI c') (nI K, nI Lq, nI Rq, nI Wq, md, wv, hr_F wp, hr_F st', hr_B um, hr_B sm, nc, nt, nk, hr_F ns, mt, mf, mo, mk, hr_F ms, ch, ck, hr_F cs, so', sa, sb, sd, sc') → wY_stepRepair_70 post (nI s) (nI mx) (nI a) (nI b) (nI m) (nI K) (nI Lq) (nI Rq) (nI Wq) (d + 1) (nI c) (nI t) md wv (hr_F wp) (hr_F st) (hr_B um) (hr_B sm) nc nt nk (hr_F ns) mt mf mo mk (hr_F ms) ch ck (hr_F cs) so sa sb sd sc) := by
  intro d
  induction d with
  | zero =>
    intro t c st sc ht hc1 hc2 hS hN
    refine ⟨c, st, so, sc, hS, hN, fun tr hT post h => ?_, fun post h => ?_⟩
    · exact br_t (nI_le (a := 9) (by omega) (by omega)) (h tr hT)
    · exact br_t (nI_le (a := 9) (by omega) (by omega)) h
  | succ d ih =>
    intro t c st sc ht hc1 hc2 hS hN
    by_cases cm : c = mx
    · refine ⟨c, st, so, sc, hS, hN, fun tr hT post h => ?_, fun post h => ?_⟩
      · exact br_f (nI_ge (b := 9) (by omega) (by decide)) (br_t (nI_le (by omega) (by omega)) (h tr hT))
      · exact br_f (nI_ge (b := 9) (by omega) (by decide)) (br_t (by rw [cm]) h)
    · have nX : ¬ nI mx ≤ nI c := nI_ge (by omega) hmx
      have nY : ¬ nI c = nI mx := fun z => cm ((nI_eq (by omega) hmx).mp z)
      have n9 : ¬ (9 : Int32) ≤ nI t := nI_ge (b := 9) (by omega) (by decide)
      obtain ⟨f, hf, ef⟩ := hN s
      have er : sc (nI s).toNatClampNeg = nI f := (hr_rd sc rfl (by omega)).trans ef
      rcases hr_least (fun j => hr_du m (st (8 * a + j)) (st (8 * b + j))) f K with ⟨k0, l1, l2, l3, l4⟩ | hn
      · obtain ⟨c', st', so', sc', i1, i2, i3, i4⟩ := ih (t + 1) (c + 1) (hr_rcs m a b k0 st) (upd sc s (nI (k0 + 1))) (by omega) (by omega) (by omega) (hr_ST_rcs hS hm ha hb l2 hK) (hr_NB_upd hN (by omega) s)
        refine ⟨c', st', so', sc', i1, i2, fun tr hT post h => ?_, fun post h => ?_⟩
        · refine br_f n9 (br_f nX ⟨hr_in4 rfl hs4, xnd1 ha hb hK hm hT hS er l1 l2 l3 l4 (br_f (hr_m1 (by omega)) (xrec hm ha hb (by omega) hT (hS.1 a ha k0 (by omega)).1 (fun tr1 hT1 => ⟨hr_in4 rfl hs4, nm_r (hr_wr sc rfl (by omega) (nI_1 k0)) (nm_r (nI_1 c) (nm_r (nI_1 t) ?_))⟩)))⟩)
          exact i3 tr1 hT1 post h
        · refine br_f n9 (br_f nY ⟨hr_in4 rfl hs4, yd1 ha hb hK hm hS er l1 l2 l3 l4 (br_f (hr_m1 (by omega)) ⟨hr_in8 ha (by omega) (hr_y8 a k0), hr_in8 hb (by omega) (hr_y8 b k0), nm_r (e' := hr_bf (hr_mg (st (8 * a + k0)) (st (8 * b + k0)))) ?_ ?_⟩)⟩)
          · rw [hr_cl (hr_y8 a k0) (by omega), hr_cl (hr_y8 b k0) (by omega)]
            exact hr_bf_or _ _
          · exact ystep hs4 ha hb hm (by omega) (i4 post h)
      · refine ⟨c, st, upd so s (vp_nar .boolean 0), sc, hS, hN, fun tr hT post h => ?_, fun post h => ?_⟩
        · exact br_f n9 (br_f nX ⟨hr_in4 rfl hs4, xnd0 ha hb hK hm hT hS er (by omega) hn (br_t rfl ⟨hr_in4 rfl hs4, nm_r (hr_wr so rfl (by omega) rfl) (h tr hT)⟩)⟩)
        · exact br_f n9 (br_f nY ⟨hr_in4 rfl hs4, yd0 ha hb hK hm hS er (by omega) hn (br_t rfl ⟨hr_in4 rfl hs4, nm_r (hr_wr so rfl (by omega) rfl) h⟩)⟩)
end
end
section
/-! gossip around the ring: X's jumps from difference to difference, Y's walk over the keys -/
theorem hr_upd2 (a : Nat → Int32) (p q : Nat) (u : Int32) : upd (upd a p u) q u = upd (upd a q u) p u := by
  funext i
  unfold upd
  by_cases h1 : i = p <;> by_cases h2 : i = q <;> simp [h1, h2]
theorem hr_mod4X (n : Nat) (h : n < 2 ^ 31) : nI n &&& 3 = nI (n % 4) := pk_andN (by omega) 2 (by decide)
theorem hr_mod4Y (n : Nat) (h : n < 2 ^ 31) : nI n - nI n / 4 * 4 = nI (n % 4) := pk_rem (d := 4) h (by decide) (by decide)
section
variable {K Lq Rq Wq um sm : Nat} {M : Nat → Nat → Nat} {st wv wp nc nt nk ns mt mf mo mk ms ch ck cs so sa sb sd sc md : Nat → Int32} {tr : Nat → Int64}
variable {post : Int32 → SY → Prop} {J : Int32 → Int32 → (Nat → Int32) → (Nat → Int32) → (Nat → Int32) → (Nat → Int32) → (Nat → Int32) → (Nat → Int32) → (Nat → Int32) → (Nat → Int32) → (Nat → Int32) → (Nat → Int32) → (Nat → Int32) → (Nat → Int32) → (Nat → Int32) → (Nat → Int32) → (Nat → Int32) → (Nat → Int32) → (Nat → Int32) → (Nat → Int32) → (Nat → Int32) → (Nat → Int32) → (Nat → Int32) → (Nat → Int32) → (Nat → Int32) → Prop}
theorem yg_skip {i j : Nat} {y : Int32} {k1 : Nat} (hi : i < 4) (hj : j < 4) (hK : K ≤ 8) (hu : hr_rb um sm i j = true) (hk1 : k1 ≤ K) (h : ∀ n, K - k1 < n → wY_round_18 post J (nI i) (nI j) (nI K) (nI Lq) (nI Rq) (nI Wq) n y (nI k1) md wv (hr_F wp) (hr_F st) (hr_B um) (hr_B sm) nc nt nk (hr_F ns) mt mf mo mk (hr_F ms) ch ck (hr_F cs) so sa sb sd sc) : ∀ d k, k + d = k1 → (∀ l, k ≤ l → l < k1 → ¬ ¬ st (8 * i + l) = st (8 * j + l)) → ∀ n, K - k < n → wY_round_18 post J (nI i) (nI j) (nI K) (nI Lq) (nI Rq) (nI Wq) n y (nI k) md wv (hr_F wp) (hr_F st) (hr_B um) (hr_B sm) nc nt nk (hr_F ns) mt mf mo mk (hr_F ms) ch ck (hr_F cs) so sa sb sd sc := by
  intro d
  induction d with
  | zero =>
    intro k hk _ n hn
    obtain rfl : k = k1 := by omega
    exact h n hn
  | succ d ih =>
    intro k hk hl n hn
    obtain ⟨n, rfl⟩ : ∃ m, n = m + 1 := ⟨n - 1, by omega⟩
    refine br_f (nI_ge (by omega) (by omega)) (yr_t hi hj rfl rfl hu (br_f hr_10 ⟨hr_in8 hi (by omega) (hr_y8 i k), hr_in8 hj (by omega) (hr_y8 j k), br_t ?_ (nm_r (nI_1 k) (ih (k + 1) (by omega) (fun l h1 h2 => hl l (by omega) h2) n (by omega)))⟩))
    rw [hr_cl (hr_y8 i k) (by omega), hr_cl (hr_y8 j k) (by omega)]
    exact congrArg hr_bf (Classical.byContradiction (hl k (Nat.le_refl _) (by omega)))
theorem yg_none {i j : Nat} {y : Int32} (hi : i < 4) (hj : j < 4) (hK : K ≤ 8) (hu : hr_rb um sm i j = false) (h : J y (nI (i + 1)) md wv (hr_F wp) (hr_F st) (hr_B um) (hr_B sm) nc nt nk (hr_F ns) mt mf mo mk (hr_F ms) ch ck (hr_F cs) so sa sb sd sc) : ∀ d k, k + d = K → wY_round_18 post J (nI i) (nI j) (nI K) (nI Lq) (nI Rq) (nI Wq) (d + 1) y (nI k) md wv (hr_F wp) (hr_F st) (hr_B um) (hr_B sm) nc nt nk (hr_F ns) mt mf mo mk (hr_F ms) ch ck (hr_F cs) so sa sb sd sc := by
  intro d
  induction d with
  | zero =>
    intro k hk
    obtain rfl : k = K := by omega
    exact br_t (nI_le (Nat.le_refl _) (by omega)) (nm_r (nI_1 i) h)
  | succ d ih =>
    intro k hk
    exact br_f (nI_ge (by omega) (by omega)) (yr_f hi hj rfl rfl hu (br_t rfl (nm_r (nI_1 k) (ih (k + 1) (by omega)))))
theorem yg_do {i j : Nat} {c k1 n : Nat} (hi : i < 4) (hj : j < 4) (hK : K ≤ 8) (hu : hr_rb um sm i j = true) (hS : hr_ST K M wp st) (hk1 : k1 < K) (hd : ¬ st (8 * i + k1) = st (8 * j + k1)) (h : wY_round_18 post J (nI i) (nI j) (nI K) (nI Lq) (nI Rq) (nI Wq) n (nI (c + 1)) (nI (k1 + 1)) md wv (hr_F wp) (hr_F (hr_rcs 0 i j k1 st)) (hr_B um) (hr_B sm) nc nt nk (hr_F ns) mt mf mo mk (hr_F ms) ch ck (hr_F cs) so sa sb sd sc) : wY_round_18 post J (nI i) (nI j) (nI K) (nI Lq) (nI Rq) (nI Wq) (n + 1) (nI c) (nI k1) md wv (hr_F wp) (hr_F st) (hr_B um) (hr_B sm) nc nt nk (hr_F ns) mt mf mo mk (hr_F ms) ch ck (hr_F cs) so sa sb sd sc := by
  have ei := hr_y8 i k1
  have ej := hr_y8 j k1
  have bi := hr_in8 hi (show k1 < 8 by omega) ei
  have bj := hr_in8 hj (show k1 < 8 by omega) ej
  refine br_f (nI_ge (by omega) (by omega)) (yr_t hi hj rfl rfl hu (br_f hr_10 ⟨bi, bj, br_f ?_ ⟨bi, bj, nm_r (e' := hr_bf (hr_mg (st (8 * i + k1)) (st (8 * j + k1)))) ?_ ⟨bi, nm_e ⟨bj, nm_r (e' := hr_F (hr_rcs 0 i j k1 st)) ?_ (nm_r (nI_1 c) (nm_r (nI_1 k1) h))⟩⟩⟩⟩))
  · rw [hr_cl ei (by omega), hr_cl ej (by omega)]
    exact fun z => hd (hr_WF_bf (hS.1 i hi k1 (by omega)) (hS.1 j hj k1 (by omega)) z)
  · rw [hr_cl ei (by omega), hr_cl ej (by omega)]
    exact hr_bf_or _ _
  · rw [hr_cl ei (by omega), hr_cl ej (by omega), hr_F_upd, hr_F_upd, hr_upd2]
    rfl
end
section
variable {K Lq Rq Wq um sm : Nat} {M : Nat → Nat → Nat} {st wv wp nc nt nk ns mt mf mo mk ms ch ck cs so sa sb sd sc md : Nat → Int32} {tr : Nat → Int64}
theorem hr_gos {i j : Nat} (hi : i < 4) (hj : j < 4) (hK : K ≤ 8) (hu : hr_rb um sm i j = true) : ∀ (e s t c : Nat) (st : Nat → Int32), K - s ≤ e → s ≤ K → t ≤ s → hr_ST K M wp st →
    ∃ (c' : Nat) (st' : Nat → Int32), hr_ST K M wp st' ∧ c' ≤ c + e ∧
      (∀ tr, hr_TR st tr → ∀ (n : Nat) (post : Int32 → SX → Prop), K - s < n → (∀ tr', hr_TR st' tr' → post (nI c') (nI K, nI Lq, nI Rq, nI Wq, nI um, nI sm, st', tr', wv, wp, nc, nt, nk, ns, mt, mf, mo, mk, ms, ch, ck, cs, so, sa, sb, sd, sc)) → wX_gossip_8 post (nI i) (nI j) n (nI c) (nI s) (nI t) (nI K) (nI Lq) (nI Rq) (nI Wq) (nI um) (nI sm) st tr wv wp nc nt nk ns mt mf mo mk ms ch ck cs so sa sb sd sc) ∧
      (∀ (y n : Nat) (post : Int32 → SY → Prop) (J : Int32 → Int32 → (Nat → Int32) → (Nat → Int32) → (Nat → Int32) → (Nat → Int32) → (Nat → Int32) → (Nat → Int32) → (Nat → Int32) → (Nat → Int32) → (Nat → Int32) → (Nat → Int32) → (Nat → Int32) → (Nat → Int32) → (Nat → Int32) → (Nat → Int32) → (Nat → Int32) → (Nat → Int32) → (Nat → Int32) → (Nat → Int32) → (Nat → Int32) → (Nat → Int32) → (Nat → Int32) → (Nat → Int32) → (Nat → Int32) → Prop), K - s < n → J (nI (y + c')) (nI (i + 1)) md wv (hr_F wp) (hr_F st') (hr_B um) (hr_B sm) nc nt nk (hr_F ns) mt mf mo mk (hr_F ms) ch ck (hr_F cs) so sa sb sd sc → wY_round_18 post J (nI i) (nI j) (nI K) (nI Lq) (nI Rq) (nI Wq) n (nI (y + c)) (nI s) md wv (hr_F wp) (hr_F st) (hr_B um) (hr_B sm) nc nt nk (hr_F ns) mt mf mo mk (hr_F ms) ch ck (hr_F cs) so sa sb sd sc) := by
  intro e
  induction e with
  | zero =>
    intro s t c st he hs ht hS
    obtain rfl : s = K := by omega
    refine ⟨c, st, hS, Nat.le_refl _, fun tr hT n post hn h => ?_, fun y n post J hn h => ?_⟩
    · obtain ⟨n, rfl⟩ : ∃ m, n = m + 1 := ⟨n - 1, by omega⟩
      by_cases c8 : 8 ≤ t
      · exact br_t (nI_le (a := 8) c8 (by omega)) (h tr hT)
      · exact br_f (nI_ge (b := 8) (by omega) (by decide)) (xfd0 hi hj hK hT hS (by omega) (fun l h1 h2 => by omega) (br_t rfl (h tr hT)))
    · obtain ⟨n, rfl⟩ : ∃ m, n = m + 1 := ⟨n - 1, by omega⟩
      exact br_t (nI_le (Nat.le_refl _) (by omega)) (nm_r (nI_1 i) h)
  | succ e ih =>
    intro s t c st he hs ht hS
    rcases hr_least (fun l => ¬ st (8 * i + l) = st (8 * j + l)) s K with ⟨k1, l1, l2, l3, l4⟩ | hn
    · obtain ⟨c', st', i1, i2, i3, i4⟩ := ih (k1 + 1) (t + 1) (c + 1) (hr_rcs 0 i j k1 st) (by omega) (by omega) (by omega) (hr_ST_rcs hS (by decide) hi hj l2 hK)
      refine ⟨c', st', i1, by omega, fun tr hT n post hn h => ?_, fun y n post J hn h => ?_⟩
      · obtain ⟨n, rfl⟩ : ∃ m, n = m + 1 := ⟨n - 1, by omega⟩
        refine br_f (nI_ge (b := 8) (by omega) (by decide)) (xfd1 hi hj hK hT hS l1 l2 l3 l4 (br_f (hr_m1 (by omega)) (xrec (m := 0) (by decide) hi hj (by omega) hT (hS.1 i hi k1 (by omega)).1 (fun tr1 hT1 => nm_r (nI_1 c) (nm_r (nI_1 k1) (nm_r (nI_1 t) ?_))))))
        exact i3 tr1 hT1 n post (by omega) h
      · refine yg_skip hi hj hK hu (Nat.le_of_lt l2) (fun m hm => ?_) (k1 - s) s (by omega) l4 n hn
        obtain ⟨m, rfl⟩ : ∃ q, m = q + 1 := ⟨m - 1, by omega⟩
        refine yg_do hi hj hK hu hS l2 l3 ?_
        exact i4 y m post J (by omega) h
    · refine ⟨c, st, hS, by omega, fun tr hT n post hn' h => ?_, fun y n post J hn' h => ?_⟩
      · obtain ⟨n, rfl⟩ : ∃ m, n = m + 1 := ⟨n - 1, by omega⟩
        by_cases c8 : 8 ≤ t
        · exact br_t (nI_le (a := 8) c8 (by omega)) (h tr hT)
        · exact br_f (nI_ge (b := 8) (by omega) (by decide)) (xfd0 hi hj hK hT hS (by omega) hn (br_t rfl (h tr hT)))
      · refine yg_skip hi hj hK hu (Nat.le_refl K) (fun m hm => ?_) (K - s) s (by omega) hn n hn'
        obtain ⟨m, rfl⟩ : ∃ q, m = q + 1 := ⟨m - 1, by omega⟩
        exact br_t (nI_le (Nat.le_refl _) (by omega)) (nm_r (nI_1 i) h)
theorem hr_rnd (hum : um < 16) (hsm : sm < 16) (hK : K ≤ 8) : ∀ (d i c : Nat) (st : Nat → Int32), i + d = 4 → c ≤ 8 * i → hr_ST K M wp st →
    ∃ (c' : Nat) (st' : Nat → Int32), hr_ST K M wp st' ∧
      (∀ tr, hr_TR st tr → ∀ (post : Int32 → SX → Prop), (∀ tr', hr_TR st' tr' → post (nI c') (nI K, nI Lq, nI Rq, nI Wq, nI um, nI sm, st', tr', wv, wp, nc, nt, nk, ns, mt, mf, mo, mk, ms, ch, ck, cs, so, sa, sb, sd, sc)) → wX_round_4 post (d + 1) (nI c) (nI i) (nI K) (nI Lq) (nI Rq) (nI Wq) (nI um) (nI sm) st tr wv wp nc nt nk ns mt mf mo mk ms ch ck cs so sa sb sd sc) ∧
      (∀ (post : Int32 → SY → Prop), post (nI c') (nI K, nI Lq, nI Rq, nI Wq, md, wv, hr_F wp, hr_F st', hr_B um, hr_B sm, nc, nt, nk, hr_F ns, mt, mf, mo, mk, hr_F ms, ch, ck, hr_F cs, so, sa, sb, sd, sc) → wY_round_4 post (nI K) (nI Lq) (nI Rq) (nI Wq) (d + 1) (nI c) (nI i) md wv (hr_F wp) (hr_F st) (hr_B um) (hr_B sm) nc nt nk (hr_F ns) mt mf mo mk (hr_F ms) ch ck (hr_F cs) so sa sb sd sc) := by
  intro d
  induction d with
  | zero =>
    intro i c st hi hc hS
    obtain rfl : i = 4 := by omega
    exact ⟨c, st, hS, fun tr hT post h => br_t (nI_le (a := 4) (by omega) (by decide)) (h tr hT), fun post h => br_t (nI_le (a := 4) (by omega) (by decide)) h⟩
  | succ d ih =>
    intro i c st hid hc hS
    have hi : i < 4 := by omega
    have hj : (i + 1) % 4 < 4 := Nat.mod_lt _ (by decide)
    have n4 : ¬ (4 : Int32) ≤ nI i := nI_ge (b := 4) hi (by decide)
    have eX : (nI i + 1) &&& 3 = nI ((i + 1) % 4) := by rw [nI_1, hr_mod4X _ (by omega)]
    have eY : (nI i + 1) - (nI i + 1) / 4 * 4 = nI ((i + 1) % 4) := by rw [nI_1, hr_mod4Y _ (by omega)]
    cases hu : hr_rb um sm i ((i + 1) % 4)
    · obtain ⟨c', st', i1, i3, i4⟩ := ih (i + 1) c st (by omega) (by omega) hS
      refine ⟨c', st', i1, fun tr hT post h => ?_, fun post h => ?_⟩
      · exact br_f n4 (nm_r eX (xr_f hum hsm hi hj rfl rfl hu (br_t rfl (nm_r (nI_1 i) (i3 tr hT post h)))))
      · exact br_f n4 ⟨by decide, nm_r eY ⟨K + 1, yg_none hi hj hK hu (i4 post h) K 0 (by omega)⟩⟩
    · obtain ⟨g, st1, g1, g2, g3, g4⟩ := hr_gos (K := K) (Lq := Lq) (Rq := Rq) (Wq := Wq) (um := um) (sm := sm) (M := M) (wv := wv) (wp := wp) (nc := nc) (nt := nt) (nk := nk) (ns := ns) (mt := mt) (mf := mf) (mo := mo) (mk := mk) (ms := ms) (ch := ch) (ck := ck) (cs := cs) (so := so) (sa := sa) (sb := sb) (sd := sd) (sc := sc) (md := md) hi hj hK hu 8 0 0 0 st (by omega) (by omega) (Nat.le_refl _) hS
      obtain ⟨c', st', i1, i3, i4⟩ := ih (i + 1) (c + g) st1 (by omega) (by omega) g1
      refine ⟨c', st', i1, fun tr hT post h => ?_, fun post h => ?_⟩
      · refine br_f n4 (nm_r eX (xr_t hum hsm hi hj rfl rfl hu (br_f hr_10 ⟨9, ?_⟩)))
        refine g3 tr hT 9 _ (by omega) (fun tr1 hT1 => ?_)
        exact nm_r (nI_add c g) (nm_r (nI_1 i) (i3 tr1 hT1 post h))
      · refine br_f n4 ⟨by decide, nm_r eY ⟨9, ?_⟩⟩
        exact g4 c 9 post _ (by omega) (i4 post h)
end
end
section
/-! hints: leaving one, spreading, handing over -/
section
variable {K Lq Rq Wq um sm : Nat} {M : Nat → Nat → Nat} {st wv wp nc nt nk ns mt mf mo mk ms ch ck cs so sa sb sd sc md : Nat → Int32} {tr : Nat → Int64}
variable {post : SX → Prop} {x : Int32} {r t k : Nat}
theorem xlh_t {i0 c : Nat} (hr : r < 4) (hc : c < 7) (hi : i0 < c) (h1 : nt (6 * r + i0) = nI t) (h2 : nk (6 * r + i0) = nI k) (hl : ∀ j, 0 ≤ j → j < i0 → ¬ (nt (6 * r + j) = nI t ∧ nk (6 * r + j) = nI k)) (h : post (nI K, nI Lq, nI Rq, nI Wq, nI um, nI sm, st, tr, wv, wp, nc, nt, nk, upd ns (6 * r + i0) x, mt, mf, mo, mk, ms, ch, ck, cs, so, sa, sb, sd, sc)) : ∀ d i, i + d = i0 → wX_leaveHint_17 post (nI r) (nI t) (nI k) x (nI (6 * r)) (nI c) (nI K) (nI Lq) (nI Rq) (nI Wq) (nI um) (nI sm) st tr wv wp nc nt nk ns mt mf mo mk ms ch ck cs so sa sb sd sc (d + 1) (nI i) := by
  intro d
  induction d with
  | zero =>
    intro i hd
    obtain rfl : i = i0 := by omega
    have e := nI_add (6 * r) i
    have b := hr_in24 e (by omega)
    refine br_f (nI_ge (b := 6) (by omega) (by decide)) (br_f (nI_ge (by omega) (by omega)) ⟨b, br_t ?_ ⟨b, br_t ?_ ⟨b, nm_r (hr_wr ns e (by omega) rfl) h⟩⟩⟩)
    · rw [hr_cl e (by omega)]; exact h1
    · rw [hr_cl e (by omega)]; exact h2
  | succ d ih =>
    intro i hd
    have e := nI_add (6 * r) i
    have b := hr_in24 e (by omega)
    have nx := ih (i + 1) (by omega)
    refine br_f (nI_ge (b := 6) (by omega) (by decide)) (br_f (nI_ge (by omega) (by omega)) ⟨b, ?_⟩)
    rw [hr_cl e (by omega)]
    by_cases q : nt (6 * r + i) = nI t
    · exact br_t q ⟨b, br_f (fun z => hl i (Nat.zero_le _) (by omega) ⟨q, z⟩) (nm_r (nI_1 i) nx)⟩
    · exact br_f q (nm_r (nI_1 i) nx)
theorem xlh_f {c : Nat} (hr : r < 4) (hc : c < 7) (hl : ∀ j, 0 ≤ j → j < c → ¬ (nt (6 * r + j) = nI t ∧ nk (6 * r + j) = nI k)) (h : wX_leaveHint_78 post (nI r) (nI t) (nI k) x (nI (6 * r)) (nI c) (nI K) (nI Lq) (nI Rq) (nI Wq) (nI um) (nI sm) st tr wv wp nc nt nk ns mt mf mo mk ms ch ck cs so sa sb sd sc) : ∀ d i, i + d = c → wX_leaveHint_17 post (nI r) (nI t) (nI k) x (nI (6 * r)) (nI c) (nI K) (nI Lq) (nI Rq) (nI Wq) (nI um) (nI sm) st tr wv wp nc nt nk ns mt mf mo mk ms ch ck cs so sa sb sd sc (d + 1) (nI i) := by
  intro d
  induction d with
  | zero =>
    intro i hd
    obtain rfl : i = c := by omega
    by_cases c6 : 6 ≤ i
    · exact br_t (nI_le (a := 6) c6 (by omega)) h
    · exact br_f (nI_ge (b := 6) (by omega) (by decide)) (br_t (nI_le (Nat.le_refl _) (by omega)) h)
  | succ d ih =>
    intro i hd
    have e := nI_add (6 * r) i
    have b := hr_in24 e (by omega)
    have nx := ih (i + 1) (by omega)
    refine br_f (nI_ge (b := 6) (by omega) (by decide)) (br_f (nI_ge (by omega) (by omega)) ⟨b, ?_⟩)
    rw [hr_cl e (by omega)]
    by_cases q : nt (6 * r + i) = nI t
    · exact br_t q ⟨b, br_f (fun z => hl i (Nat.zero_le _) (by omega) ⟨q, z⟩) (nm_r (nI_1 i) nx)⟩
    · exact br_f q (nm_r (nI_1 i) nx)
end
section
variable {K Lq Rq Wq um sm : Nat} {M : Nat → Nat → Nat} {st wv wp nc nt nk ns mt mf mo mk ms ch ck cs so sa sb sd sc md : Nat → Int32} {tr : Nat → Int64}
variable {post : SY → Prop} {x : Int32} {r t k : Nat}
theorem ylh_t {i0 c : Nat} (hr : r < 4) (hc : c < 7) (ec : nc r = nI c) (hi : i0 < c) (h1 : nt (6 * r + i0) = nI t) (h2 : nk (6 * r + i0) = nI k) (hl : ∀ j, 0 ≤ j → j < i0 → ¬ (nt (6 * r + j) = nI t ∧ nk (6 * r + j) = nI k)) (h : post (nI K, nI Lq, nI Rq, nI Wq, md, wv, hr_F wp, hr_F st, hr_B um, hr_B sm, nc, nt, nk, hr_F (upd ns (6 * r + i0) x), mt, mf, mo, mk, hr_F ms, ch, ck, hr_F cs, so, sa, sb, sd, sc)) : ∀ d i, i + d = i0 → wY_leaveHint_3 post (nI r) (nI t) (nI k) (hr_bf x) (nI K) (nI Lq) (nI Rq) (nI Wq) md wv (hr_F wp) (hr_F st) (hr_B um) (hr_B sm) nc nt nk (hr_F ns) mt mf mo mk (hr_F ms) ch ck (hr_F cs) so sa sb sd sc (d + 1) (nI i) := by
  have er : nc (nI r).toNatClampNeg = nI c := (hr_rd nc rfl (by omega)).trans ec
  intro d
  induction d with
  | zero =>
    intro i hd
    obtain rfl : i = i0 := by omega
    have b : vp_in (nI (6 * r + i)) 24 := hr_in24 rfl (by omega)
    refine br_f (nI_ge (b := 6) (by omega) (by decide)) (nm_r (hr_y6 r i) ⟨hr_in4 rfl hr, br_f ?_ ⟨b, br_t ?_ ⟨b, br_t ?_ ⟨b, nm_r (e' := hr_F (upd ns (6 * r + i) x)) ?_ h⟩⟩⟩⟩)
    · rw [er]; exact nI_ge (by omega) (by omega)
    · rw [nI_clamp (by omega)]; exact h1
    · rw [nI_clamp (by omega)]; exact h2
    · rw [nI_clamp (by omega), hr_F_upd]
  | succ d ih =>
    intro i hd
    have b : vp_in (nI (6 * r + i)) 24 := hr_in24 rfl (by omega)
    have nx := ih (i + 1) (by omega)
    refine br_f (nI_ge (b := 6) (by omega) (by decide)) (nm_r (hr_y6 r i) ⟨hr_in4 rfl hr, br_f ?_ ⟨b, ?_⟩⟩)
    · rw [er]; exact nI_ge (by omega) (by omega)
    · rw [nI_clamp (show 6 * r + i < 2 ^ 31 by omega)]
      by_cases q : nt (6 * r + i) = nI t
      · exact br_t q ⟨b, br_f (fun z => hl i (Nat.zero_le _) (by omega) ⟨q, z⟩) (nm_r (nI_1 i) nx)⟩
      · exact br_f q (nm_r (nI_1 i) nx)
theorem ylh_f {c : Nat} (hr : r < 4) (hc : c < 7) (ec : nc r = nI c) (hl : ∀ j, 0 ≤ j → j < c → ¬ (nt (6 * r + j) = nI t ∧ nk (6 * r + j) = nI k)) (h : ∀ n, wY_leaveHint_3 post (nI r) (nI t) (nI k) (hr_bf x) (nI K) (nI Lq) (nI Rq) (nI Wq) md wv (hr_F wp) (hr_F st) (hr_B um) (hr_B sm) nc nt nk (hr_F ns) mt mf mo mk (hr_F ms) ch ck (hr_F cs) so sa sb sd sc (n + 1) (nI 6)) : ∀ d i, i + d = 6 → wY_leaveHint_3 post (nI r) (nI t) (nI k) (hr_bf x) (nI K) (nI Lq) (nI Rq) (nI Wq) md wv (hr_F wp) (hr_F st) (hr_B um) (hr_B sm) nc nt nk (hr_F ns) mt mf mo mk (hr_F ms) ch ck (hr_F cs) so sa sb sd sc (d + 1) (nI i) := by
  have er : nc (nI r).toNatClampNeg = nI c := (hr_rd nc rfl (by omega)).trans ec
  intro d
  induction d with
  | zero =>
    intro i hd
    obtain rfl : i = 6 := by omega
    exact h 0
  | succ d ih =>
    intro i hd
    have b : vp_in (nI (6 * r + i)) 24 := hr_in24 rfl (by omega)
    have nx := ih (i + 1) (by omega)
    refine br_f (nI_ge (b := 6) (by omega) (by decide)) (nm_r (hr_y6 r i) ⟨hr_in4 rfl hr, ?_⟩)
    rw [er]
    by_cases ci : c ≤ i
    · exact br_t (nI_le ci (by omega)) (nm_r (nI_1 i) nx)
    · refine br_f (nI_ge (by omega) (by omega)) ⟨b, ?_⟩
      rw [nI_clamp (show 6 * r + i < 2 ^ 31 by omega)]
      by_cases q : nt (6 * r + i) = nI t
      · exact br_t q ⟨b, br_f (fun z => hl i (Nat.zero_le _) (by omega) ⟨q, z⟩) (nm_r (nI_1 i) nx)⟩
      · exact br_f q (nm_r (nI_1 i) nx)
end
section
variable {K Lq Rq Wq um sm : Nat} {M : Nat → Nat → Nat} {st wv wp nc nt nk ns mt mf mo mk ms ch ck cs so sa sb sd sc md : Nat → Int32} {tr : Nat → Int64}
theorem hr_lh {x : Int32} {r t k : Nat} (hr : r < 4) (ht : t < 4) (hk : k < K) (hx : hr_WF M wp k x) (h1 : hr_NB 7 nc) (h2 : hr_NB 4 nt) (h3 : hr_KS K M wp nk ns) :
    ∃ nc' nt' nk' ns' : Nat → Int32, hr_NB 7 nc' ∧ hr_NB 4 nt' ∧ hr_KS K M wp nk' ns' ∧
      (∀ (st : Nat → Int32) (tr : Nat → Int64) (post : SX → Prop), post (nI K, nI Lq, nI Rq, nI Wq, nI um, nI sm, st, tr, wv, wp, nc', nt', nk', ns', mt, mf, mo, mk, ms, ch, ck, cs, so, sa, sb, sd, sc) → wpX_leaveHint post (nI K, nI Lq, nI Rq, nI Wq, nI um, nI sm, st, tr, wv, wp, nc, nt, nk, ns, mt, mf, mo, mk, ms, ch, ck, cs, so, sa, sb, sd, sc) (nI r) (nI t) (nI k) x) ∧
      (∀ (st : Nat → Int32) (post : SY → Prop), post (nI K, nI Lq, nI Rq, nI Wq, md, wv, hr_F wp, hr_F st, hr_B um, hr_B sm, nc', nt', nk', hr_F ns', mt, mf, mo, mk, hr_F ms, ch, ck, hr_F cs, so, sa, sb, sd, sc) → wpY_leaveHint post (nI K, nI Lq, nI Rq, nI Wq, md, wv, hr_F wp, hr_F st, hr_B um, hr_B sm, nc, nt, nk, hr_F ns, mt, mf, mo, mk, hr_F ms, ch, ck, hr_F cs, so, sa, sb, sd, sc) (nI r) (nI t) (nI k) (hr_bf x)) := by
  obtain ⟨c, hc, ec⟩ := h1 r
  have er : nc (nI r).toNatClampNeg = nI c := (hr_rd nc rfl (by omega)).trans ec
  have e6 : 6 * nI r = nI (6 * r) := pk_mul 6 r
  rcases hr_least (fun j => nt (6 * r + j) = nI t ∧ nk (6 * r + j) = nI k) 0 c with ⟨i0, l1, l2, l3, l4⟩ | hn
  · refine ⟨nc, nt, nk, upd ns (6 * r + i0) x, h1, h2, hr_KS_set h3 hk hx _ l3.2, fun st tr post h => ?_, fun st post h => ?_⟩
    · exact nm_r e6 ⟨hr_in4 rfl hr, nm_r er ⟨i0 + 1, xlh_t hr hc l2 l3.1 l3.2 l4 h i0 0 (by omega)⟩⟩
    · exact ⟨i0 + 1, ylh_t hr hc ec l2 l3.1 l3.2 l4 h i0 0 (by omega)⟩
  · by_cases c6 : c = 6
    · refine ⟨nc, nt, nk, ns, h1, h2, h3, fun st tr post h => ?_, fun st post h => ?_⟩
      · refine nm_r e6 ⟨hr_in4 rfl hr, nm_r er ⟨c + 1, xlh_f hr hc hn ?_ c 0 (by omega)⟩⟩
        exact br_t (nI_le (a := 6) (by omega) (by omega)) h
      · refine ⟨7, ylh_f hr hc ec hn (fun n => ?_) 6 0 rfl⟩
        refine br_t (nI_le (a := 6) (by omega) (by omega)) ⟨hr_in4 rfl hr, br_f ?_ h⟩
        rw [er]
        exact nI_nlt (b := 6) (by omega) (by omega)
    · refine ⟨upd nc r (nI (c + 1)), upd nt (6 * r + c) (nI t), upd nk (6 * r + c) (nI k), upd ns (6 * r + c) x, hr_NB_upd h1 (by omega) r, hr_NB_upd h2 ht _, hr_KS_upd h3 hk hx _, fun st tr post h => ?_, fun st post h => ?_⟩
      · refine nm_r e6 ⟨hr_in4 rfl hr, nm_r er ⟨c + 1, xlh_f hr hc hn ?_ c 0 (by omega)⟩⟩
        have e := nI_add (6 * r) c
        have b := hr_in24 e (by omega)
        exact br_f (nI_ge (b := 6) (by omega) (by decide)) ⟨b, nm_r (hr_wr nt e (by omega) rfl) ⟨b, nm_r (hr_wr nk e (by omega) rfl) ⟨b, nm_r (hr_wr ns e (by omega) rfl) ⟨hr_in4 rfl hr, nm_r (hr_wr nc rfl (by omega) (nI_1 c)) h⟩⟩⟩⟩
      · refine ⟨7, ylh_f hr hc ec hn (fun n => ?_) 6 0 rfl⟩
        have b : vp_in (nI (6 * r + c)) 24 := hr_in24 rfl (by omega)
        refine br_t (nI_le (a := 6) (by omega) (by omega)) ⟨hr_in4 rfl hr, br_t ?_ ⟨hr_in4 rfl hr, nm_r (e' := nI (6 * r + c)) ?_ ⟨b, nm_r (hr_wr nt rfl (by omega) rfl) ⟨b, nm_r (hr_wr nk rfl (by omega) rfl) ⟨b, nm_r (e' := hr_F (upd ns (6 * r + c) x)) ?_ ⟨hr_in4 rfl hr, hr_in4 rfl hr, nm_r (hr_wr nc rfl (by omega) ?_) h⟩⟩⟩⟩⟩⟩
        · rw [er]
          exact nI_lt (b := 6) (by omega) (by decide)
        · rw [er]
          exact hr_y6 r c
        · rw [nI_clamp (by omega), hr_F_upd]
        · rw [er]
          exact nI_1 c
/-- X's spread and Y's loop in put -/
theorem hr_spr {x : Int32} {r k : Nat} (hum : um < 16) (hsm : sm < 16) (hW : Wq ≤ 4) (hr : r < 4) (hk : k < K) (hK : K ≤ 8) (hx : hr_WF M wp k x) : ∀ (d i c : Nat) (st nc nt nk ns : Nat → Int32), i + d = 4 → c ≤ i → hr_ST K M wp st → hr_NB 7 nc → hr_NB 4 nt → hr_KS K M wp nk ns →
    ∃ st' nc' nt' nk' ns' : Nat → Int32, hr_ST K M wp st' ∧ hr_NB 7 nc' ∧ hr_NB 4 nt' ∧ hr_KS K M wp nk' ns' ∧
      (∀ (tr : Nat → Int64), hr_TR st tr → ∀ (post : SX → Prop), (∀ tr', hr_TR st' tr' → post (nI K, nI Lq, nI Rq, nI Wq, nI um, nI sm, st', tr', wv, wp, nc', nt', nk', ns', mt, mf, mo, mk, ms, ch, ck, cs, so, sa, sb, sd, sc)) → wX_spread_18 post (nI r) (nI k) x (d + 1) (nI c) (nI i) (nI K) (nI Lq) (nI Rq) (nI Wq) (nI um) (nI sm) st tr wv wp nc nt nk ns mt mf mo mk ms ch ck cs so sa sb sd sc) ∧
      (∀ (dot : Int32) (post : Int32 → SY → Prop), post dot (nI K, nI Lq, nI Rq, nI Wq, md, wv, hr_F wp, hr_F st', hr_B um, hr_B sm, nc', nt', nk', hr_F ns', mt, mf, mo, mk, hr_F ms, ch, ck, hr_F cs, so, sa, sb, sd, sc) → wY_put_220 post (nI r) (nI k) dot (hr_bf x) (d + 1) (nI c) (nI i) (nI K) (nI Lq) (nI Rq) (nI Wq) md wv (hr_F wp) (hr_F st) (hr_B um) (hr_B sm) nc nt nk (hr_F ns) mt mf mo mk (hr_F ms) ch ck (hr_F cs) so sa sb sd sc) := by
  intro d
  induction d with
  | zero =>
    intro i c st nc nt nk ns hi hc hS h1 h2 h3
    obtain rfl : i = 4 := by omega
    exact ⟨st, nc, nt, nk, ns, hS, h1, h2, h3, fun tr hT post h => br_t (nI_le (a := 4) (by omega) (by decide)) (h tr hT), fun dot post h => br_t (nI_lt (a := 3) (by omega) (by decide)) h⟩
  | succ d ih =>
    intro i c st nc nt nk ns hi hc hS h1 h2 h3
    have hp : (r + i) % 4 < 4 := Nat.mod_lt _ (by decide)
    have n4 : ¬ (4 : Int32) ≤ nI i := nI_ge (b := 4) (by omega) (by decide)
    have n3 : ¬ (3 : Int32) < nI i := nI_nlt (a := 3) (by omega) (by decide)
    have eX : (nI r + nI i) &&& 3 = nI ((r + i) % 4) := by rw [nI_add, hr_mod4X _ (by omega)]
    have eY : (nI r + nI i) - (nI r + nI i) / 4 * 4 = nI ((r + i) % 4) := by rw [nI_add, hr_mod4Y _ (by omega)]
    cases hu : hr_rb um sm r ((r + i) % 4)
    · obtain ⟨nc1, nt1, nk1, ns1, j1, j2, j3, jX, jY⟩ := hr_lh (K := K) (Lq := Lq) (Rq := Rq) (Wq := Wq) (um := um) (sm := sm) (M := M) (wv := wv) (wp := wp) (nc := nc) (nt := nt) (nk := nk) (ns := ns) (mt := mt) (mf := mf) (mo := mo) (mk := mk) (ms := ms) (ch := ch) (ck := ck) (cs := cs) (so := so) (sa := sa) (sb := sb) (sd := sd) (sc := sc) (md := md) hr hp hk hx h1 h2 h3
      obtain ⟨st', nc', nt', nk', ns', i1, i2, i3, i4, iX, iY⟩ := ih (i + 1) c st nc1 nt1 nk1 ns1 (by omega) (by omega) hS j1 j2 j3
      refine ⟨st', nc', nt', nk', ns', i1, i2, i3, i4, fun tr hT post h => ?_, fun dot post h => ?_⟩
      · refine br_f n4 (nm_r eX (xr_f hum hsm hr hp rfl rfl hu (br_t rfl (jX st tr _ (nm_r (nI_1 i) ?_)))))
        exact iX tr hT post h
      · refine br_f n3 ⟨by decide, nm_r eY (yr_f hr hp rfl rfl hu (br_t rfl (jY st _ (nm_r (nI_1 i) ?_))))⟩
        exact iY dot post h
    · by_cases cw : Wq ≤ c
      · obtain ⟨st', nc', nt', nk', ns', i1, i2, i3, i4, iX, iY⟩ := ih (i + 1) c st nc nt nk ns (by omega) (by omega) hS h1 h2 h3
        refine ⟨st', nc', nt', nk', ns', i1, i2, i3, i4, fun tr hT post h => ?_, fun dot post h => ?_⟩
        · refine br_f n4 (nm_r eX (xr_t hum hsm hr hp rfl rfl hu (br_f hr_10 (br_t (nI_le cw (by omega)) (nm_r (nI_1 i) ?_)))))
          exact iX tr hT post h
        · refine br_f n3 ⟨by decide, nm_r eY (yr_t hr hp rfl rfl hu (br_f hr_10 (br_t (nI_le cw (by omega)) (nm_r (nI_1 i) ?_))))⟩
          exact iY dot post h
      · obtain ⟨st', nc', nt', nk', ns', i1, i2, i3, i4, iX, iY⟩ := ih (i + 1) (c + 1) (upd st (8 * ((r + i) % 4) + k) (hr_mg (st (8 * ((r + i) % 4) + k)) x)) nc nt nk ns (by omega) (by omega) (hr_ST_mg hS hp hk hK hx) h1 h2 h3
        refine ⟨st', nc', nt', nk', ns', i1, i2, i3, i4, fun tr hT post h => ?_, fun dot post h => ?_⟩
        · refine br_f n4 (nm_r eX (xr_t hum hsm hr hp rfl rfl hu (br_f hr_10 (br_f (nI_ge (by omega) (by omega)) (xab hp (by omega) hT rfl rfl (hS.1 _ hp k (by omega)).1 (fun tr1 hT1 => nm_r (nI_1 c) (nm_r (nI_1 i) ?_)))))))
          exact iX tr1 hT1 post h
        · have e := hr_y8 ((r + i) % 4) k
          have b := hr_in8 hp (show k < 8 by omega) e
          refine br_f n3 ⟨by decide, nm_r eY (yr_t hr hp rfl rfl hu (br_f hr_10 (br_f (nI_ge (by omega) (by omega)) ⟨b, b, nm_r (e' := hr_F (upd st (8 * ((r + i) % 4) + k) (hr_mg (st (8 * ((r + i) % 4) + k)) x))) ?_ (nm_r (nI_1 c) (nm_r (nI_1 i) ?_))⟩)))⟩
          · rw [hr_cl e (by omega), ← hr_F_upd, ← hr_bf_or]
            rfl
          · exact iY dot post h
end
end
section
/-! handing hints over; reading; what a write adds -/
section
variable {K Lq Rq Wq um sm : Nat} {M : Nat → Nat → Nat} {st wv wp nc nt nk ns mt mf mo mk ms ch ck cs so sa sb sd sc md : Nat → Int32} {tr : Nat → Int64}
theorem xho_keep {post : Int32 → SX → Prop} {p x9 : Int32} {r t c i re ke : Nat} {J : Int32 → Int32 → Int32 → Int32 → Int32 → Int32 → Int32 → Int32 → Int32 → (Nat → Int32) → (Nat → Int64) → (Nat → Int32) → (Nat → Int32) → (Nat → Int32) → (Nat → Int32) → (Nat → Int32) → (Nat → Int32) → (Nat → Int32) → (Nat → Int32) → (Nat → Int32) → (Nat → Int32) → (Nat → Int32) → (Nat → Int32) → (Nat → Int32) → (Nat → Int32) → (Nat → Int32) → (Nat → Int32) → (Nat → Int32) → (Nat → Int32) → (Nat → Int32) → Prop} (hr : r < 4) (hi : i < 6) (hke : ke ≤ i) (h : J (nI re) (nI (ke + 1)) (nI (i + 1)) (nI K) (nI Lq) (nI Rq) (nI Wq) (nI um) (nI sm) st tr wv wp nc (upd nt (6 * r + ke) (nt (6 * r + i))) (upd nk (6 * r + ke) (nk (6 * r + i))) (upd ns (6 * r + ke) (ns (6 * r + i))) mt mf mo mk ms ch ck cs so sa sb sd sc) : wX_handoff_141 post J (nI r) (nI t) p (nI (6 * r)) (nI c) (nI re) (nI ke) (nI i) (nI (6 * r + i)) (nI K) (nI Lq) (nI Rq) (nI Wq) (nI um) (nI sm) st tr wv wp nc nt nk ns mt mf mo mk ms ch ck cs so sa sb sd sc := by
  have e := nI_add (6 * r) ke
  have b1 : vp_in (nI (6 * r + i)) 24 := hr_in24 rfl (by omega)
  have b2 := hr_in24 e (by omega)
  have z : (nI (6 * r + i)).toNatClampNeg = 6 * r + i := nI_clamp (by omega)
  exact ⟨b1, b2, nm_r (hr_wr nt e (by omega) (congrArg nt z)) ⟨b1, b2, nm_r (hr_wr nk e (by omega) (congrArg nk z)) ⟨b1, b2, nm_r (hr_wr ns e (by omega) (congrArg ns z)) (nm_r (nI_1 ke) (nm_r (nI_1 i) h))⟩⟩⟩
theorem yho_keep {post : Int32 → SY → Prop} {p x9 : Int32} {r t i re ke : Nat} {J : Int32 → Int32 → Int32 → (Nat → Int32) → (Nat → Int32) → (Nat → Int32) → (Nat → Int32) → (Nat → Int32) → (Nat → Int32) → (Nat → Int32) → (Nat → Int32) → (Nat → Int32) → (Nat → Int32) → (Nat → Int32) → (Nat → Int32) → (Nat → Int32) → (Nat → Int32) → (Nat → Int32) → (Nat → Int32) → (Nat → Int32) → (Nat → Int32) → (Nat → Int32) → (Nat → Int32) → (Nat → Int32) → (Nat → Int32) → (Nat → Int32) → Prop} (hr : r < 4) (hi : i < 6) (hke : ke ≤ i) (h : J (nI re) (nI (ke + 1)) (nI (i + 1)) md wv (hr_F wp) (hr_F st) (hr_B um) (hr_B sm) nc (upd nt (6 * r + ke) (nt (6 * r + i))) (upd nk (6 * r + ke) (nk (6 * r + i))) (hr_F (upd ns (6 * r + ke) (ns (6 * r + i)))) mt mf mo mk (hr_F ms) ch ck (hr_F cs) so sa sb sd sc) : wY_handoff_141 post J (nI r) (nI t) p (nI re) (nI ke) (nI i) (nI (6 * r + i)) (nI K) (nI Lq) (nI Rq) (nI Wq) md wv (hr_F wp) (hr_F st) (hr_B um) (hr_B sm) nc nt nk (hr_F ns) mt mf mo mk (hr_F ms) ch ck (hr_F cs) so sa sb sd sc := by
  have b1 : vp_in (nI (6 * r + i)) 24 := hr_in24 rfl (by omega)
  have b2 : vp_in (nI (6 * r + ke)) 24 := hr_in24 rfl (by omega)
  have z : (nI (6 * r + i)).toNatClampNeg = 6 * r + i := nI_clamp (by omega)
  have w : upd (hr_F ns) (nI (6 * r + ke)).toNatClampNeg (hr_F ns (nI (6 * r + i)).toNatClampNeg) = hr_F (upd ns (6 * r + ke) (ns (6 * r + i))) := by
    rw [z, nI_clamp (by omega), ← hr_F_upd]
    rfl
  exact nm_r (hr_y6 r ke) ⟨b1, b2, nm_r (hr_wr nt rfl (by omega) (congrArg nt z)) ⟨b1, b2, nm_r (hr_wr nk rfl (by omega) (congrArg nk z)) ⟨b1, b2, nm_r w (nm_r (nI_1 ke) (nm_r (nI_1 i) h))⟩⟩⟩
theorem yho_skip {post : Int32 → SY → Prop} {p : Int32} {r t c re ke : Nat} (hr : r < 4) (hc : c < 7) (ec : nc r = nI c) (h : post (nI re) (nI K, nI Lq, nI Rq, nI Wq, md, wv, hr_F wp, hr_F st, hr_B um, hr_B sm, upd nc r (nI ke), nt, nk, hr_F ns, mt, mf, mo, mk, hr_F ms, ch, ck, hr_F cs, so, sa, sb, sd, sc)) : ∀ d i, i + d = 6 → c ≤ i → wY_handoff_64 post (nI r) (nI t) p (nI K) (nI Lq) (nI Rq) (nI Wq) (d + 1) (nI re) (nI ke) (nI i) md wv (hr_F wp) (hr_F st) (hr_B um) (hr_B sm) nc nt nk (hr_F ns) mt mf mo mk (hr_F ms) ch ck (hr_F cs) so sa sb sd sc := by
  have er : nc (nI r).toNatClampNeg = nI c := (hr_rd nc rfl (by omega)).trans ec
  intro d
  induction d with
  | zero =>
    intro i hi _
    exact br_t (nI_le (a := 6) (by omega) (by omega)) ⟨hr_in4 rfl hr, nm_r (hr_wr nc rfl (by omega) rfl) h⟩
  | succ d ih =>
    intro i hi hci
    refine br_f (nI_ge (b := 6) (by omega) (by decide)) (nm_e ⟨hr_in4 rfl hr, br_t ?_ (nm_r (nI_1 i) (ih (i + 1) (by omega) (by omega)))⟩)
    rw [er]
    exact nI_le hci (by omega)
end
section
variable {K Lq Rq Wq um sm : Nat} {M : Nat → Nat → Nat} {st wv wp nc nt nk ns mt mf mo mk ms ch ck cs so sa sb sd sc md : Nat → Int32} {tr : Nat → Int64}
theorem hr_hof {r t mx c : Nat} (hr : r < 4) (ht : t < 4) (hK : K ≤ 8) (hmx : mx < 2 ^ 31) (hc : c < 7) (ec : nc r = nI c) (hN : hr_NB 7 nc) : ∀ (d i re ke : Nat) (st nt nk ns : Nat → Int32), i + d = 6 → re ≤ i → ke ≤ i → hr_ST K M wp st → hr_NB 4 nt → hr_KS K M wp nk ns →
    ∃ (re' : Nat) (st' nc' nt' nk' ns' : Nat → Int32), hr_ST K M wp st' ∧ hr_NB 7 nc' ∧ hr_NB 4 nt' ∧ hr_KS K M wp nk' ns' ∧
      (∀ (tr : Nat → Int64), hr_TR st tr → ∀ (post : Int32 → SX → Prop), (∀ tr', hr_TR st' tr' → post (nI re') (nI K, nI Lq, nI Rq, nI Wq, nI um, nI sm, st', tr', wv, wp, nc', nt', nk', ns', mt, mf, mo, mk, ms, ch, ck, cs, so, sa, sb, sd, sc)) → wX_handoff_77 post (nI r) (nI t) (nI mx) (nI (6 * r)) (nI c) (d + 1) (nI re) (nI ke) (nI i) (nI K) (nI Lq) (nI Rq) (nI Wq) (nI um) (nI sm) st tr wv wp nc nt nk ns mt mf mo mk ms ch ck cs so sa sb sd sc) ∧
      (∀ (post : Int32 → SY → Prop), post (nI re') (nI K, nI Lq, nI Rq, nI Wq, md, wv, hr_F wp, hr_F st', hr_B um, hr_B sm, nc', nt', nk', hr_F ns', mt, mf, mo, mk, hr_F ms, ch, ck, hr_F cs, so, sa, sb, sd, sc) → wY_handoff_64 post (nI r) (nI t) (nI mx) (nI K) (nI Lq) (nI Rq) (nI Wq) (d + 1) (nI re) (nI ke) (nI i) md wv (hr_F wp) (hr_F st) (hr_B um) (hr_B sm) nc nt nk (hr_F ns) mt mf mo mk (hr_F ms) ch ck (hr_F cs) so sa sb sd sc) := by
  have er : nc (nI r).toNatClampNeg = nI c := (hr_rd nc rfl (by omega)).trans ec
  intro d
  induction d with
  | zero =>
    intro i re ke st nt nk ns hi hre hke hS h2 h3
    refine ⟨re, st, upd nc r (nI ke), nt, nk, ns, hS, hr_NB_upd hN (by omega) r, h2, h3, fun tr hT post h => ?_, fun post h => ?_⟩
    · exact br_t (nI_le (a := 6) (by omega) (by omega)) ⟨hr_in4 rfl hr, nm_r (hr_wr nc rfl (by omega) rfl) (h tr hT)⟩
    · exact br_t (nI_le (a := 6) (by omega) (by omega)) ⟨hr_in4 rfl hr, nm_r (hr_wr nc rfl (by omega) rfl) h⟩
  | succ d ih =>
    intro i re ke st nt nk ns hi hre hke hS h2 h3
    have n6 : ¬ (6 : Int32) ≤ nI i := nI_ge (b := 6) (by omega) (by decide)
    by_cases ci : c ≤ i
    · refine ⟨re, st, upd nc r (nI ke), nt, nk, ns, hS, hr_NB_upd hN (by omega) r, h2, h3, fun tr hT post h => ?_, fun post h => ?_⟩
      · exact br_f n6 (br_t (nI_le ci (by omega)) ⟨hr_in4 rfl hr, nm_r (hr_wr nc rfl (by omega) rfl) (h tr hT)⟩)
      · exact yho_skip hr hc ec h (d + 1) i hi ci
    · have nX : ¬ nI c ≤ nI i := nI_ge (by omega) (by omega)
      have nY : ¬ nc (nI r).toNatClampNeg ≤ nI i := by rw [er]; exact nX
      have eX := nI_add (6 * r) i
      have b1 : vp_in (nI (6 * r + i)) 24 := hr_in24 rfl (by omega)
      have z : (nI (6 * r + i)).toNatClampNeg = 6 * r + i := nI_clamp (by omega)
      by_cases tk : nt (6 * r + i) = nI t ∧ re < mx
      · obtain ⟨k, hk, ek, wk⟩ := h3 (6 * r + i)
        obtain ⟨re', st', nc', nt', nk', ns', i1, i2, i3, i4, iX, iY⟩ := ih (i + 1) (re + 1) ke (upd st (8 * t + k) (hr_mg (st (8 * t + k)) (ns (6 * r + i)))) nt nk ns (by omega) (by omega) (by omega) (hr_ST_mg hS ht hk hK wk) h2 h3
        refine ⟨re', st', nc', nt', nk', ns', i1, i2, i3, i4, fun tr hT post h => ?_, fun post h => ?_⟩
        · refine br_f n6 (br_f nX (nm_r eX ⟨b1, br_t (by rw [z]; exact tk.1) (br_f (nI_ge tk.2 hmx) ⟨b1, b1, ?_⟩)⟩))
          rw [z]
          refine xab ht (by omega) hT rfl ek (hS.1 t ht k (by omega)).1 (fun tr1 hT1 => nm_r (nI_1 re) (nm_r (nI_1 i) ?_))
          exact iX tr1 hT1 post h
        · have e8 : nI t * 8 + nk (nI (6 * r + i)).toNatClampNeg = nI (8 * t + k) := by rw [z, ek]; exact hr_y8 t k
          have b2 := hr_in8 ht (show k < 8 by omega) e8
          refine br_f n6 (nm_r (hr_y6 r i) ⟨hr_in4 rfl hr, br_f nY ⟨b1, br_t (by rw [z]; exact tk.1) (br_f (nI_ge tk.2 hmx) ⟨b1, b2, b1, b2, nm_r (e' := hr_F (upd st (8 * t + k) (hr_mg (st (8 * t + k)) (ns (6 * r + i))))) ?_ (nm_r (nI_1 re) (nm_r (nI_1 i) ?_))⟩)⟩⟩)
          · rw [hr_cl e8 (by omega), z, ← hr_F_upd, ← hr_bf_or]
            rfl
          · exact iY post h
      · obtain ⟨re', st', nc', nt', nk', ns', i1, i2, i3, i4, iX, iY⟩ := ih (i + 1) re (ke + 1) st (upd nt (6 * r + ke) (nt (6 * r + i))) (upd nk (6 * r + ke) (nk (6 * r + i))) (upd ns (6 * r + ke) (ns (6 * r + i))) (by omega) (by omega) (by omega) hS (hr_NB_mv h2 _ _) (hr_KS_mv h3 _ _)
        refine ⟨re', st', nc', nt', nk', ns', i1, i2, i3, i4, fun tr hT post h => ?_, fun post h => ?_⟩
        · have kp := xho_keep (x9 := 0) (post := post) (p := nI mx) (t := t) (c := c) hr (show i < 6 by omega) hke (iX tr hT post h)
          refine br_f n6 (br_f nX (nm_r eX ⟨b1, ?_⟩))
          by_cases q : nt (6 * r + i) = nI t
          · have q2 : ¬ re < mx := fun w => tk ⟨q, w⟩
            exact br_t (by rw [z]; exact q) (br_t (nI_le (by omega) (by omega)) kp)
          · exact br_f (by rw [z]; exact q) kp
        · have kp := yho_keep (K := K) (Lq := Lq) (Rq := Rq) (Wq := Wq) (x9 := 0) (post := post) (p := nI mx) (t := t) hr (show i < 6 by omega) hke (iY post h)
          refine br_f n6 (nm_r (hr_y6 r i) ⟨hr_in4 rfl hr, br_f nY ⟨b1, ?_⟩⟩)
          by_cases q : nt (6 * r + i) = nI t
          · have q2 : ¬ re < mx := fun w => tk ⟨q, w⟩
            exact br_t (by rw [z]; exact q) (br_t (nI_le (by omega) (by omega)) kp)
          · exact br_f (by rw [z]; exact q) kp
/-- X's and Y's reading -/
theorem hr_get {cl r k : Nat} (hum : um < 16) (hsm : sm < 16) (hr : r < 4) (hk : k < K) (hK : K ≤ 8) (hR : Rq ≤ 4) (hS : hr_ST K M wp st) : ∀ (d i c : Nat) (x : Int32), i + d = 4 → c ≤ i → hr_WF M wp k x →
    ∃ x' : Int32, hr_WF M wp k x' ∧
      (∀ post : Int32 → SX → Prop, wX_get_130 post (nI cl) (nI k) x' (nI K) (nI Lq) (nI Rq) (nI Wq) (nI um) (nI sm) st tr wv wp nc nt nk ns mt mf mo mk ms ch ck cs so sa sb sd sc → wX_get_68 post (nI cl) (nI r) (nI k) (nI K) (nI Lq) (nI Rq) (nI Wq) (nI um) (nI sm) st tr wv wp nc nt nk ns mt mf mo mk ms ch ck cs so sa sb sd sc (d + 1) x (nI c) (nI i)) ∧
      (∀ post : Int32 → SY → Prop, (∀ n q, wY_get_69 post (nI cl) (nI r) (nI k) (nI K) (nI Lq) (nI Rq) (nI Wq) md wv (hr_F wp) (hr_F st) (hr_B um) (hr_B sm) nc nt nk (hr_F ns) mt mf mo mk (hr_F ms) ch ck (hr_F cs) so sa sb sd sc (n + 1) (hr_bf x') q (nI 4)) → wY_get_69 post (nI cl) (nI r) (nI k) (nI K) (nI Lq) (nI Rq) (nI Wq) md wv (hr_F wp) (hr_F st) (hr_B um) (hr_B sm) nc nt nk (hr_F ns) mt mf mo mk (hr_F ms) ch ck (hr_F cs) so sa sb sd sc (d + 1) (hr_bf x) (nI c) (nI i)) := by
  intro d
  induction d with
  | zero =>
    intro i c x hi hc hx
    obtain rfl : i = 4 := by omega
    exact ⟨x, hx, fun post h => br_t (nI_le (a := 4) (by omega) (by decide)) h, fun post h => h 0 _⟩
  | succ d ih =>
    intro i c x hi hc hx
    have hp : (r + i) % 4 < 4 := Nat.mod_lt _ (by decide)
    have n4 : ¬ (4 : Int32) ≤ nI i := nI_ge (b := 4) (by omega) (by decide)
    have eX : (nI r + nI i) &&& 3 = nI ((r + i) % 4) := by rw [nI_add, hr_mod4X _ (by omega)]
    have eY : (nI r + nI i) - (nI r + nI i) / 4 * 4 = nI ((r + i) % 4) := by rw [nI_add, hr_mod4Y _ (by omega)]
    by_cases cr : Rq ≤ c
    · refine ⟨x, hx, fun post h => br_f n4 (br_t (nI_le cr (by omega)) h), fun post h => ?_⟩
      have key : ∀ d j, j + d = 4 → wY_get_69 post (nI cl) (nI r) (nI k) (nI K) (nI Lq) (nI Rq) (nI Wq) md wv (hr_F wp) (hr_F st) (hr_B um) (hr_B sm) nc nt nk (hr_F ns) mt mf mo mk (hr_F ms) ch ck (hr_F cs) so sa sb sd sc (d + 1) (hr_bf x) (nI c) (nI j) := by
        intro d
        induction d with
        | zero =>
          intro j hj
          obtain rfl : j = 4 := by omega
          exact h 0 _
        | succ d ih2 =>
          intro j hj
          exact br_f (nI_ge (b := 4) (by omega) (by decide)) ⟨by decide, nm_e (br_t (nI_le cr (by omega)) (nm_r (nI_1 j) (ih2 (j + 1) (by omega))))⟩
      exact key (d + 1) i hi
    · have nr : ¬ nI Rq ≤ nI c := nI_ge (by omega) (by omega)
      cases hu : hr_rb um sm r ((r + i) % 4)
      · obtain ⟨x', i1, iX, iY⟩ := ih (i + 1) c x (by omega) (by omega) hx
        refine ⟨x', i1, fun post h => ?_, fun post h => ?_⟩
        · exact br_f n4 (br_f nr (nm_r eX (xr_f hum hsm hr hp rfl rfl hu (br_t rfl (nm_r (nI_1 i) (iX post h))))))
        · exact br_f n4 ⟨by decide, nm_r eY (br_f nr (yr_f hr hp rfl rfl hu (br_t rfl (nm_r (nI_1 i) (iY post h)))))⟩
      · obtain ⟨x', i1, iX, iY⟩ := ih (i + 1) (c + 1) (hr_mg x (st (8 * ((r + i) % 4) + k))) (by omega) (by omega) (hr_WF_mg hx (hS.1 _ hp k (by omega)))
        refine ⟨x', i1, fun post h => ?_, fun post h => ?_⟩
        · have e8 := hr_x8 ((r + i) % 4) k
          refine br_f n4 (br_f nr (nm_r eX (xr_t hum hsm hr hp rfl rfl hu (br_f hr_10 ⟨hr_in8 hp (by omega) e8, ?_⟩))))
          rw [hr_cl e8 (by omega)]
          exact xm hx.1 (nm_r (nI_1 c) (nm_r (nI_1 i) (iX post h)))
        · have e8 := hr_y8 ((r + i) % 4) k
          refine br_f n4 ⟨by decide, nm_r eY (br_f nr (yr_t hr hp rfl rfl hu (br_f hr_10 ⟨hr_in8 hp (by omega) e8, nm_r (e' := hr_bf (hr_mg x (st (8 * ((r + i) % 4) + k)))) ?_ (nm_r (nI_1 c) (nm_r (nI_1 i) (iY post h)))⟩)))⟩
          rw [hr_cl e8 (by omega)]
          exact hr_bf_or _ _
end
end
section
/-! what a write adds -/
def hr_M1 (M : Nat → Nat → Nat) (k r c : Nat) : Nat → Nat → Nat := fun k' w => if k' = k ∧ w = r then c + 1 else M k' w
def hr_fr (s : Int32) (r c : Nat) : Int32 := ((s &&& 4095) <<< ((12 : Int32) &&& 31)) ||| (nI (c + 1) <<< ((3 * nI r) &&& 31))
def hr_ff (s : Int32) (r c : Nat) : Nat → Nat := fun i => if i < 4 then (if i = r then c + 1 else 0) else hr_ln s (i - 4)
theorem hr_ff_lt (s : Int32) (r : Nat) {c : Nat} (hc : c < 7) : ∀ i, hr_ff s r c i < 8 := by
  intro i
  have := hr_ln_lt s (i - 4)
  unfold hr_ff
  split
  · split <;> omega
  · omega
theorem hr_and12 (s : Int32) : s &&& 4095 = nI (s.toBitVec.toNat % 4096) := pk_and s 12 (by decide)
theorem hr_ln12 (s : Int32) {w : Nat} (hw : w < 4) : hr_ln (s &&& 4095) w = hr_ln s w := by
  have h : s.toBitVec.toNat % 4096 < 4096 := Nat.mod_lt _ (by decide)
  refine hr_low' 4 ?_ w hw
  rw [hr_and12, pk_tn (by omega)]
  exact Nat.mod_mod _ _
theorem hr_bf12 (s : Int32) : hr_bf (s &&& 4095) = hr_bf s := hr_bf_congr (fun _ hw => hr_ln12 s hw)
theorem hr_dg4 (f : Nat → Nat) : hr_dg f 4 = f 0 + f 1 * 8 + f 2 * 64 + f 3 * 512 := by
  show 0 + f 0 * 8 ^ 0 + f 1 * 8 ^ 1 + f 2 * 8 ^ 2 + f 3 * 8 ^ 3 = _
  omega
theorem hr_dg8 (f : Nat → Nat) : hr_dg f 8 = f 0 + f 1 * 8 + f 2 * 64 + f 3 * 512 + (f 4 + f 5 * 8 + f 6 * 64 + f 7 * 512) * 4096 := by
  show 0 + f 0 * 8 ^ 0 + f 1 * 8 ^ 1 + f 2 * 8 ^ 2 + f 3 * 8 ^ 3 + f 4 * 8 ^ 4 + f 5 * 8 ^ 5 + f 6 * 8 ^ 6 + f 7 * 8 ^ 7 = _
  omega
theorem hr_ct4 (x : Int32) : x.toBitVec.toNat % 4096 = hr_ln x 0 + hr_ln x 1 * 8 + hr_ln x 2 * 64 + hr_ln x 3 * 512 := by
  have e := hr_dg_mod x.toBitVec.toNat 4
  rw [hr_dg4] at e
  exact e
theorem hr_fr_eq (s : Int32) {r c : Nat} (hr : r < 4) (hc : c < 7) : hr_fr s r c = hr_mk (hr_ff s r c) := by
  have hm : s.toBitVec.toNat % 4096 < 4096 := Nat.mod_lt _ (by decide)
  have e1 : nI (s.toBitVec.toNat % 4096) <<< ((12 : Int32) &&& 31) = nI (s.toBitVec.toNat % 4096 * 2 ^ 12) := pk_shlN _ 12 (by decide) (by omega)
  have e3 : (3 : Int32) * nI r = nI (3 * r) := pk_mul 3 r
  have p1 : 2 ^ (3 * r) ≤ 2 ^ 9 := Nat.pow_le_pow_right (by decide) (by omega)
  have p2 : (c + 1) * 2 ^ (3 * r) ≤ 7 * 2 ^ 9 := Nat.mul_le_mul (by omega) p1
  have e2 : nI (c + 1) <<< (nI (3 * r) &&& 31) = nI ((c + 1) * 2 ^ (3 * r)) := pk_shlN _ (3 * r) (s_l (3 * r) (by omega)) (by omega)
  unfold hr_fr
  rw [hr_and12, e1, e3, e2, nx_or, Nat.or_comm, hr_natorx (by omega)]
  unfold hr_mk
  rw [hr_dg8, hr_ct4]
  refine congrArg nI ?_
  have f4 : hr_ff s r c 4 = hr_ln s 0 := rfl
  have f5 : hr_ff s r c 5 = hr_ln s 1 := rfl
  have f6 : hr_ff s r c 6 = hr_ln s 2 := rfl
  have f7 : hr_ff s r c 7 = hr_ln s 3 := rfl
  rw [f4, f5, f6, f7]
  have cs : r = 0 ∨ r = 1 ∨ r = 2 ∨ r = 3 := by omega
  rcases cs with h | h | h | h <;> subst h
  · show (c + 1) * 2 ^ 0 + _ = (c + 1) + 0 * 8 + 0 * 64 + 0 * 512 + _
    omega
  · show (c + 1) * 2 ^ 3 + _ = 0 + (c + 1) * 8 + 0 * 64 + 0 * 512 + _
    omega
  · show (c + 1) * 2 ^ 6 + _ = 0 + 0 * 8 + (c + 1) * 64 + 0 * 512 + _
    omega
  · show (c + 1) * 2 ^ 9 + _ = 0 + 0 * 8 + 0 * 64 + (c + 1) * 512 + _
    omega
theorem hr_fr_c (s : Int32) {r c w : Nat} (hr : r < 4) (hc : c < 7) (hw : w < 4) : hr_ln (hr_fr s r c) w = if w = r then c + 1 else 0 := by
  rw [hr_fr_eq s hr hc, hr_mk_ln (hr_ff_lt s r hc) (by omega)]
  exact if_pos hw
theorem hr_fr_f (s : Int32) {r c w : Nat} (hr : r < 4) (hc : c < 7) (hw : w < 4) : hr_ln (hr_fr s r c) (4 + w) = hr_ln s w := by
  rw [hr_fr_eq s hr hc, hr_mk_ln (hr_ff_lt s r hc) (by omega)]
  show (if 4 + w < 4 then _ else hr_ln s (4 + w - 4)) = _
  rw [if_neg (by omega), show 4 + w - 4 = w by omega]
/-- the set after a write -/
def hr_nw (o s : Int32) (r c : Nat) : Int32 := hr_mg o (hr_mg s (hr_fr s r c))
theorem hr_nw_c (o s : Int32) {r c w : Nat} (hr : r < 4) (hc : c < 7) (hw : w < 4) : hr_ln (hr_nw o s r c) w = max (hr_ln o w) (max (hr_ln s w) (if w = r then c + 1 else 0)) := by
  unfold hr_nw
  rw [hr_mg_ln _ _ (show w < 8 by omega), hr_mg_ln _ _ (show w < 8 by omega), hr_fr_c s hr hc hw]
theorem hr_nw_f (o s : Int32) {r c w : Nat} (hr : r < 4) (hc : c < 7) (hw : w < 4) : hr_ln (hr_nw o s r c) (4 + w) = max (hr_ln o (4 + w)) (max (hr_ln s (4 + w)) (hr_ln s w)) := by
  unfold hr_nw
  rw [hr_mg_ln _ _ (show 4 + w < 8 by omega), hr_mg_ln _ _ (show 4 + w < 8 by omega), hr_fr_f s hr hc hw]
theorem hr_nw_ib {o s : Int32} {r c : Nat} (hr : r < 4) (hc : c < 7) (ho : hr_ln o r = c) (hs : hr_ln s r ≤ c) {d : Nat} (hd : d < 32) : hr_ib (hr_nw o s r c) d = true ↔ (hr_ib o d = true ∨ hr_ib s d = true ∨ d = 8 * r + c + 1) := by
  rw [hr_ib_iff, hr_ib_iff, hr_ib_iff, hr_nw_c o s hr hc (show d / 8 < 4 by omega)]
  by_cases q : d / 8 = r
  · rw [if_pos q, q, ho]
    omega
  · rw [if_neg q]
    omega
theorem hr_M1_ge {M : Nat → Nat → Nat} {k r c : Nat} (h : M k r = c) (k' w : Nat) : M k' w ≤ hr_M1 M k r c k' w := by
  unfold hr_M1
  by_cases q : k' = k ∧ w = r
  · rw [if_pos q, q.1, q.2]
    omega
  · rw [if_neg q]
    exact Nat.le_refl _
theorem hr_WF_put {M : Nat → Nat → Nat} {wp : Nat → Int32} {k r c k' : Nat} {x s : Int32} (hr : r < 4) (hc : c < 7) (hM : M k r = c) (h : hr_WF M wp k' x) : hr_WF (hr_M1 M k r c) (upd wp (32 * k + (8 * r + c + 1)) s) k' x := by
  have ne : ∀ d, d < 32 → hr_ib x d = true → upd wp (32 * k + (8 * r + c + 1)) s (32 * k' + d) = wp (32 * k' + d) := by
    intro d hd hi
    refine pk_un ?_
    intro z
    have e1 : k' = k := by omega
    have e2 : d = 8 * r + c + 1 := by omega
    rw [hr_ib_iff, show d / 8 = r by omega] at hi
    have := (h.2 r hr).1
    rw [e1, hM] at this
    omega
  refine ⟨h.1, fun w hw => ?_⟩
  obtain ⟨a1, a2, a3, a4⟩ := h.2 w hw
  refine ⟨Nat.le_trans a1 (hr_M1_ge hM k' w), a2, fun d hd hi => ?_, fun z => ?_⟩
  · rw [ne d hd hi]
    exact a3 d hd hi
  · obtain ⟨d, hd, hi, e⟩ := a4 z
    exact ⟨d, hd, hi, by rw [ne d hd hi]; exact e⟩
theorem hr_WF_nw {M : Nat → Nat → Nat} {wp : Nat → Int32} {k r c : Nat} {o s : Int32} (hr : r < 4) (hc : c < 7) (hM : M k r = c) (ho : hr_WF M wp k o) (hs : hr_WF M wp k s) (hl : hr_ln o r = c) : hr_WF (hr_M1 M k r c) (upd wp (32 * k + (8 * r + c + 1)) (s &&& 4095)) k (hr_nw o s r c) := by
  have o' := hr_WF_put (s := s &&& 4095) hr hc hM ho
  have s' := hr_WF_put (s := s &&& 4095) hr hc hM hs
  have sr : hr_ln s r ≤ c := by have := (hs.2 r hr).1; omega
  have hd0 : 8 * r + c + 1 < 32 := by omega
  refine ⟨hr_mg_lt _ _, fun w hw => ?_⟩
  obtain ⟨a1, a2, a3, a4⟩ := o'.2 w hw
  obtain ⟨b1, b2, b3, b4⟩ := s'.2 w hw
  have m1 : (if w = r then c + 1 else 0) ≤ hr_M1 M k r c k w := by
    by_cases q : w = r
    · rw [if_pos q]
      unfold hr_M1
      rw [if_pos ⟨rfl, q⟩]
      exact Nat.le_refl _
    · rw [if_neg q]
      exact Nat.zero_le _
  rw [hr_nw_c o s hr hc hw, hr_nw_f o s hr hc hw]
  refine ⟨by omega, by omega, fun d hd hi => ?_, fun z => ?_⟩
  · rw [hr_nw_ib hr hc hl sr hd] at hi
    rcases hi with hi | hi | hi
    · have := a3 d hd hi
      omega
    · have := b3 d hd hi
      omega
    · rw [hi, pk_us, hr_ln12 s hw]
      omega
  · by_cases q1 : hr_ln s (4 + w) ≤ hr_ln o (4 + w) ∧ hr_ln s w ≤ hr_ln o (4 + w)
    · obtain ⟨d, hd, hi, e⟩ := a4 (by omega)
      exact ⟨d, hd, (hr_nw_ib hr hc hl sr hd).mpr (Or.inl hi), by rw [e]; omega⟩
    · by_cases q2 : hr_ln s w ≤ hr_ln s (4 + w)
      · obtain ⟨d, hd, hi, e⟩ := b4 (by omega)
        exact ⟨d, hd, (hr_nw_ib hr hc hl sr hd).mpr (Or.inr (Or.inl hi)), by rw [e]; omega⟩
      · refine ⟨8 * r + c + 1, hd0, (hr_nw_ib hr hc hl sr hd0).mpr (Or.inr (Or.inr rfl)), ?_⟩
        rw [pk_us, hr_ln12 s hw]
        omega
theorem hr_bt1 : ∀ j, j < 32 → bt 1 j = decide (j = 0) := by decide +kernel
theorem hr_1sh {e d : Nat} (he : e < 32) (hd : d < 32) : bt ((1 : Int32) <<< (nI e &&& 31)) d = decide (d = e) := by
  rw [b_shl e he 1 hd, hr_bt1 _ (by omega), ← Bool.decide_and]
  exact decide_eq_decide.mpr (by omega)
theorem hr_nw_bf {M : Nat → Nat → Nat} {wp : Nat → Int32} {k r c : Nat} {o s : Int32} (hr : r < 4) (hc : c < 7) (hM : M k r = c) (hs : hr_WF M wp k s) (hl : hr_ln o r = c) : (hr_bf o ||| hr_bf s) ||| ((1 : Int32) <<< (nI (8 * r + c + 1) &&& 31)) = hr_bf (hr_nw o s r c) := by
  have sr : hr_ln s r ≤ c := by have := (hs.2 r hr).1; omega
  apply b_ext
  intro d hd
  rw [b_or, b_or, hr_bt hd, hr_bt hd, hr_bt hd, hr_1sh (by omega) hd, Bool.eq_iff_iff, hr_nw_ib hr hc hl sr hd, Bool.or_eq_true, Bool.or_eq_true, decide_eq_true_eq, or_assoc]
theorem hr_MD_put {M : Nat → Nat → Nat} {md : Nat → Int32} {k r c : Nat} (hr : r < 4) (hc : c < 7) (hM : M k r = c) (h : hr_MD M md) : hr_MD (hr_M1 M k r c) (upd md k (md k ||| ((1 : Int32) <<< (nI (8 * r + c + 1) &&& 31)))) := by
  intro k' hk' d hd
  by_cases e : k' = k
  · subst e
    rw [pk_us, b_or, h k' hk' d hd, hr_1sh (by omega) hd]
    unfold hr_M1
    rw [Bool.eq_iff_iff, Bool.or_eq_true, Bool.and_eq_true, Bool.and_eq_true, decide_eq_true_eq, decide_eq_true_eq, decide_eq_true_eq, decide_eq_true_eq]
    by_cases q : d / 8 = r
    · rw [if_pos ⟨rfl, q⟩, q, hM]
      omega
    · rw [if_neg (fun z => q z.2)]
      omega
  · rw [pk_un e, h k' hk' d hd]
    unfold hr_M1
    rw [if_neg (fun z => e z.1)]
theorem hr_ST_put {K : Nat} {M : Nat → Nat → Nat} {wp st : Nat → Int32} {k r c : Nat} {s : Int32} (hr : r < 4) (hk : k < K) (hK : K ≤ 8) (hc : c < 7) (hM : M k r = c) (h : hr_ST K M wp st) (hs : hr_WF M wp k s) : hr_ST K (hr_M1 M k r c) (upd wp (32 * k + (8 * r + c + 1)) (s &&& 4095)) (upd st (8 * r + k) (hr_nw (st (8 * r + k)) s r c)) := by
  have hl : hr_ln (st (8 * r + k)) r = c := (h.2.1 r hr k (by omega)).trans hM
  have sr : hr_ln s r ≤ c := by have := (hs.2 r hr).1; omega
  refine ⟨fun r' hr' k' hk' => ?_, fun r' hr' k' hk' => ?_, fun r' hr' k' h1 hk' => ?_⟩
  · by_cases q : 8 * r' + k' = 8 * r + k
    · have : k' = k := by omega
      subst this
      rw [q, pk_us]
      exact hr_WF_nw hr hc hM (h.1 r hr k' hk') hs hl
    · rw [pk_un q]
      exact hr_WF_put hr hc hM (h.1 r' hr' k' hk')
  · by_cases q : 8 * r' + k' = 8 * r + k
    · have e1 : k' = k := by omega
      have e2 : r' = r := by omega
      subst e1 e2
      rw [pk_us, hr_nw_c _ _ hr hc hr, if_pos rfl, hl]
      unfold hr_M1
      rw [if_pos ⟨rfl, rfl⟩]
      omega
    · rw [pk_un q, h.2.1 r' hr' k' hk']
      unfold hr_M1
      rw [if_neg (fun z => q (by rw [z.1, z.2]))]
  · rw [pk_un (by omega)]
    exact h.2.2 r' hr' k' h1 hk'
theorem hr_KS_put {K : Nat} {M : Nat → Nat → Nat} {wp ka sa : Nat → Int32} {k r c : Nat} {s : Int32} (hr : r < 4) (hc : c < 7) (hM : M k r = c) (h : hr_KS K M wp ka sa) : hr_KS K (hr_M1 M k r c) (upd wp (32 * k + (8 * r + c + 1)) s) ka sa := by
  intro i
  obtain ⟨q, h1, h2, h3⟩ := h i
  exact ⟨q, h1, h2, hr_WF_put hr hc hM h3⟩
end
section
/-! the relation -/
def hr_I (K Lq Rq Wq um sm : Nat) (M : Nat → Nat → Nat) (st : Nat → Int32) (tr : Nat → Int64) (wp md nc nt nk ns mf mo mk ms ck cs sa sb sd sc : Nat → Int32) : Prop :=
  (1 ≤ K ∧ K ≤ 8 ∧ 1 ≤ Lq ∧ Lq ≤ 7 ∧ 1 ≤ Rq ∧ Rq ≤ 4 ∧ 1 ≤ Wq ∧ Wq ≤ 4 ∧ um < 16 ∧ sm < 16) ∧ (hr_TR st tr ∧ hr_ST K M wp st ∧ hr_MD M md) ∧ (hr_NB 7 nc ∧ hr_NB 4 nt ∧ hr_KS K M wp nk ns) ∧ (hr_NB 4 mf ∧ hr_NB 4 mo ∧ hr_KS K M wp mk ms) ∧ hr_KS K M wp ck cs ∧ (hr_NB 4 sa ∧ hr_NB 4 sb ∧ hr_NB 3 sd ∧ hr_NB 9 sc)
def i_Rel (k : Nat) (u : SX) (v : SY) : Prop :=
  ∃ (K Lq Rq Wq um sm : Nat) (M : Nat → Nat → Nat) (st : Nat → Int32) (tr : Nat → Int64) (wv wp md nc nt nk ns mt mf mo mk ms ch ck cs so sa sb sd sc : Nat → Int32), hr_I K Lq Rq Wq um sm M st tr wp md nc nt nk ns mf mo mk ms ck cs sa sb sd sc ∧ u = (nI K, nI Lq, nI Rq, nI Wq, nI um, nI sm, st, tr, wv, wp, nc, nt, nk, ns, mt, mf, mo, mk, ms, ch, ck, cs, so, sa, sb, sd, sc) ∧ v = (nI K, nI Lq, nI Rq, nI Wq, md, wv, hr_F wp, hr_F st, hr_B um, hr_B sm, nc, nt, nk, hr_F ns, mt, mf, mo, mk, hr_F ms, ch, ck, hr_F cs, so, sa, sb, sd, sc)
theorem i_up {k : Nat} {u : SX} {v : SY} (h : i_Rel k u v) : i_Rel (k + 5) u v := h
section
variable {K Lq Rq Wq um sm : Nat} {M : Nat → Nat → Nat} {st wv wp nc nt nk ns mt mf mo mk ms ch ck cs so sa sb sd sc md : Nat → Int32} {tr : Nat → Int64}
theorem hr_rel {k : Nat} (h : hr_I K Lq Rq Wq um sm M st tr wp md nc nt nk ns mf mo mk ms ck cs sa sb sd sc) : i_Rel k (nI K, nI Lq, nI Rq, nI Wq, nI um, nI sm, st, tr, wv, wp, nc, nt, nk, ns, mt, mf, mo, mk, ms, ch, ck, cs, so, sa, sb, sd, sc) (nI K, nI Lq, nI Rq, nI Wq, md, wv, hr_F wp, hr_F st, hr_B um, hr_B sm, nc, nt, nk, hr_F ns, mt, mf, mo, mk, hr_F ms, ch, ck, hr_F cs, so, sa, sb, sd, sc) :=
  ⟨K, Lq, Rq, Wq, um, sm, M, st, tr, wv, wp, md, nc, nt, nk, ns, mt, mf, mo, mk, ms, ch, ck, cs, so, sa, sb, sd, sc, h, rfl, rfl⟩
end
theorem hr_el {P : SX → SY → Prop} {k : Nat} {u : SX} {v : SY} (h : ∀ (K Lq Rq Wq um sm : Nat) (M : Nat → Nat → Nat) (st : Nat → Int32) (tr : Nat → Int64) (wv wp md nc nt nk ns mt mf mo mk ms ch ck cs so sa sb sd sc : Nat → Int32), hr_I K Lq Rq Wq um sm M st tr wp md nc nt nk ns mf mo mk ms ck cs sa sb sd sc → P (nI K, nI Lq, nI Rq, nI Wq, nI um, nI sm, st, tr, wv, wp, nc, nt, nk, ns, mt, mf, mo, mk, ms, ch, ck, cs, so, sa, sb, sd, sc) (nI K, nI Lq, nI Rq, nI Wq, md, wv, hr_F wp, hr_F st, hr_B um, hr_B sm, nc, nt, nk, hr_F ns, mt, mf, mo, mk, hr_F ms, ch, ck, hr_F cs, so, sa, sb, sd, sc)) (I : i_Rel k u v) : P u v :=
  I.elim fun K I => I.elim fun Lq I => I.elim fun Rq I => I.elim fun Wq I => I.elim fun um I => I.elim fun sm I => I.elim fun M I => I.elim fun st I => I.elim fun tr I => I.elim fun wv I => I.elim fun wp I => I.elim fun md I => I.elim fun nc I => I.elim fun nt I => I.elim fun nk I => I.elim fun ns I => I.elim fun mt I => I.elim fun mf I => I.elim fun mo I => I.elim fun mk I => I.elim fun ms I => I.elim fun ch I => I.elim fun ck I => I.elim fun cs I => I.elim fun so I => I.elim fun sa I => I.elim fun sb I => I.elim fun sd I => I.elim fun sc I => by
    rw [I.2.1, I.2.2]
    exact h K Lq Rq Wq um sm M st tr wv wp md nc nt nk ns mt mf mo mk ms ch ck cs so sa sb sd sc I.1
/-! the constructors -/
theorem hr_F0 : hr_F (fun _ => 0) = fun _ => 0 := by
  funext i
  exact hr_bf0
theorem hr_B_hi {m j : Nat} (hm : m < 16) (hj : 4 ≤ j) : hr_B m j = 0 := by
  have h : 2 ^ 4 ≤ 2 ^ j := Nat.pow_le_pow_right (by decide) hj
  unfold hr_B
  rw [Nat.div_eq_of_lt (by omega)]
  rfl
theorem hr_B0 : hr_B 0 = fun _ => 0 := by
  funext j
  unfold hr_B
  rw [Nat.zero_div]
  rfl
theorem hr_co4 {P : Nat → Prop} (h0 : P 0) (h1 : P 1) (h2 : P 2) (h3 : P 3) (h : ∀ j, 4 ≤ j → P j) : ∀ j, P j := by
  intro j
  by_cases c : 4 ≤ j
  · exact h j c
  · have e : j = 0 ∨ j = 1 ∨ j = 2 ∨ j = 3 := by omega
    rcases e with e | e | e | e
    · rw [e]; exact h0
    · rw [e]; exact h1
    · rw [e]; exact h2
    · rw [e]; exact h3
theorem hr_B15 : upd (upd (upd (upd (fun _ => 0) 0 1) 1 1) 2 1) 3 1 = hr_B 15 := by
  funext j
  refine hr_co4 (P := fun j => upd (upd (upd (upd (fun _ => 0) 0 1) 1 1) 2 1) 3 1 j = hr_B 15 j) rfl rfl rfl rfl (fun j hj => ?_) j
  show _ = hr_B 15 j
  rw [hr_B_hi (by decide) hj, pk_un (by omega), pk_un (by omega), pk_un (by omega), pk_un (by omega)]
theorem hr_clamp (v : Int32) {g : Nat} (hg : 1 ≤ g) (hg2 : g < 2 ^ 31) : ∃ j : Nat, 1 ≤ j ∧ j ≤ g ∧ (∀ (u : SX) (post : Int32 → Prop), post (nI j) → wpX_clamp post u v (nI g)) ∧ (∀ (u : SY) (post : Int32 → Prop), post (nI j) → wpY_clamp post u v (nI g)) := by
  by_cases h1 : 1 ≤ v
  · have h0 : ¬ v < 0 := by
      have e : (1 : Int32).toInt = 1 := by decide
      have e0 : (0 : Int32).toInt = 0 := by decide
      rw [Int32.le_iff_toInt_le, e] at h1
      rw [Int32.lt_iff_toInt_lt, e0]
      omega
    obtain ⟨j, hj, rfl⟩ := nI_of h0
    have j1 : 1 ≤ j := (nI_leI (a := 1) (by decide) hj).mp h1
    by_cases c : j ≤ g
    · have h2 := nI_le c hg2
      exact ⟨j, j1, c, fun u post h => br_t h1 (br_t h2 h), fun u post h => br_t h1 (br_t h2 h)⟩
    · have h2 : ¬ nI j ≤ nI g := nI_ge (by omega) hj
      exact ⟨g, hg, Nat.le_refl _, fun u post h => br_t h1 (br_f h2 h), fun u post h => br_t h1 (br_f h2 h)⟩
  · exact ⟨1, Nat.le_refl _, hg, fun u post h => br_f h1 h, fun u post h => br_f h1 h⟩
theorem hr_I0 {K Lq Rq Wq : Nat} (a1 : 1 ≤ K) (a2 : K ≤ 8) (b1 : 1 ≤ Lq) (b2 : Lq ≤ 7) (c1 : 1 ≤ Rq) (c2 : Rq ≤ 4) (d1 : 1 ≤ Wq) (d2 : Wq ≤ 4) : hr_I K Lq Rq Wq 15 0 (fun _ _ => 0) (fun _ => 0) (fun _ => 0) (fun _ => 0) (fun _ => 0) (fun _ => 0) (fun _ => 0) (fun _ => 0) (fun _ => 0) (fun _ => 0) (fun _ => 0) (fun _ => 0) (fun _ => 0) (fun _ => 0) (fun _ => 0) (fun _ => 0) (fun _ => 0) (fun _ => 0) (fun _ => 0) := by
  refine ⟨⟨a1, a2, b1, b2, c1, c2, d1, d2, by decide, by decide⟩, ⟨hr_TR_0, ⟨fun _ _ _ _ => hr_WF_0 _ _ _, fun w _ k _ => hr_ln0 w, fun _ _ _ _ _ => rfl⟩, fun k _ d hd => ?_⟩, ⟨hr_NB_0 (by decide), hr_NB_0 (by decide), hr_KS_0 (by omega) _ _⟩, ⟨hr_NB_0 (by decide), hr_NB_0 (by decide), hr_KS_0 (by omega) _ _⟩, hr_KS_0 (by omega) _ _, ⟨hr_NB_0 (by decide), hr_NB_0 (by decide), hr_NB_0 (by decide), hr_NB_0 (by decide)⟩⟩
  show bt 0 d = (decide (1 ≤ d % 8) && decide (d % 8 ≤ 0))
  rw [b_0, ← Bool.decide_and]
  exact (decide_eq_false (by omega)).symm
theorem i_vc0 (k0 : Int32) (k1 : Int32) (k2 : Int32) (k3 : Int32) : wpX_init (fun u => wpY_init (fun v => i_Rel 4 u v) k0 k1 k2 k3) k0 k1 k2 k3 := by
  obtain ⟨K, a1, a2, aX, aY⟩ := hr_clamp k0 (g := 8) (by decide) (by decide)
  obtain ⟨Lq, b1, b2, bX, bY⟩ := hr_clamp k1 (g := 7) (by decide) (by decide)
  obtain ⟨Rq, c1, c2, cX, cY⟩ := hr_clamp k2 (g := 4) (by decide) (by decide)
  obtain ⟨Wq, d1, d2, dX, dY⟩ := hr_clamp k3 (g := 4) (by decide) (by decide)
  unfold wpX_init
  refine aX _ _ (bX _ _ (cX _ _ (dX _ _ ?_)))
  unfold wpY_init
  refine aY _ _ (bY _ _ (cY _ _ (dY _ _ ⟨5, ?_⟩)))
  have q := hr_rel (k := 4) (wv := fun _ => 0) (mt := fun _ => 0) (ch := fun _ => 0) (so := fun _ => 0) (hr_I0 a1 a2 b1 b2 c1 c2 d1 d2)
  rw [hr_F0, hr_B0, ← hr_B15] at q
  refine br_f (by decide) ⟨hr_in4 (a := 0) rfl (by decide), nm_r (e' := upd (fun _ => 0) 0 1) rfl (nm_r (e' := 1) rfl ?_)⟩
  refine br_f (by decide) ⟨hr_in4 (a := 1) rfl (by decide), nm_r (e' := upd (upd (fun _ => 0) 0 1) 1 1) rfl (nm_r (e' := 2) rfl ?_)⟩
  refine br_f (by decide) ⟨hr_in4 (a := 2) rfl (by decide), nm_r (e' := upd (upd (upd (fun _ => 0) 0 1) 1 1) 2 1) rfl (nm_r (e' := 3) rfl ?_)⟩
  refine br_f (by decide) ⟨hr_in4 (a := 3) rfl (by decide), nm_r (e' := upd (upd (upd (upd (fun _ => 0) 0 1) 1 1) 2 1) 3 1) rfl (nm_r (e' := 4) rfl ?_)⟩
  exact br_t (by decide) q
end
section
/-! replicas, sides, sessions, queries -/
theorem hr_setX : ∀ m, m < 16 → ∀ r, r < 4 → nI m ||| ((1 : Int32) <<< (nI r &&& 31)) = nI (m + (1 - m / 2 ^ r % 2) * 2 ^ r) ∧ m + (1 - m / 2 ^ r % 2) * 2 ^ r < 16 := by decide +kernel
theorem hr_clrX : ∀ m, m < 16 → ∀ r, r < 4 → nI m &&& (((1 : Int32) <<< (nI r &&& 31)) ^^^ (-1)) = nI (m - m / 2 ^ r % 2 * 2 ^ r) ∧ m - m / 2 ^ r % 2 * 2 ^ r < 16 := by decide +kernel
theorem hr_setB : ∀ m, m < 16 → ∀ r, r < 4 → ∀ j, j < 4 → (m + (1 - m / 2 ^ r % 2) * 2 ^ r) / 2 ^ j % 2 = if j = r then 1 else m / 2 ^ j % 2 := by decide +kernel
theorem hr_clrB : ∀ m, m < 16 → ∀ r, r < 4 → ∀ j, j < 4 → (m - m / 2 ^ r % 2 * 2 ^ r) / 2 ^ j % 2 = if j = r then 0 else m / 2 ^ j % 2 := by decide +kernel
theorem hr_setF {m r : Nat} (hm : m < 16) (hr : r < 4) : upd (hr_B m) r 1 = hr_B (m + (1 - m / 2 ^ r % 2) * 2 ^ r) := by
  funext j
  by_cases c : 4 ≤ j
  · rw [hr_B_hi (hr_setX m hm r hr).2 c, pk_un (by omega), hr_B_hi hm c]
  · have e := hr_setB m hm r hr j (by omega)
    show _ = nI ((m + (1 - m / 2 ^ r % 2) * 2 ^ r) / 2 ^ j % 2)
    rw [e]
    by_cases q : j = r
    · rw [if_pos q, q, pk_us]
      rfl
    · rw [if_neg q, pk_un q]
      rfl
theorem hr_clrF {m r : Nat} (hm : m < 16) (hr : r < 4) : upd (hr_B m) r 0 = hr_B (m - m / 2 ^ r % 2 * 2 ^ r) := by
  funext j
  by_cases c : 4 ≤ j
  · rw [hr_B_hi (hr_clrX m hm r hr).2 c, pk_un (by omega), hr_B_hi hm c]
  · have e := hr_clrB m hm r hr j (by omega)
    show _ = nI ((m - m / 2 ^ r % 2 * 2 ^ r) / 2 ^ j % 2)
    rw [e]
    by_cases q : j = r
    · rw [if_pos q, q, pk_us]
      rfl
    · rw [if_neg q, pk_un q]
      rfl
theorem i_vc_setUp {k : Nat} {u : SX} {v : SY} (I : i_Rel k u v) (hk : k + 5 ≤ 2564) (v1 : Int32) (v2 : Int32) : wpX_setUp (fun r u' => wpY_setUp (fun r' v' => r' = r ∧ i_Rel (k + 5) u' v') v v1 (lw_bz v2)) u v1 (lw_bz v2) := by
  refine hr_el (P := fun u v => wpX_setUp (fun r u' => wpY_setUp (fun r' v' => r' = r ∧ i_Rel (k + 5) u' v') v v1 (lw_bz v2)) u v1 (lw_bz v2)) ?_ I
  intro K Lq Rq Wq um sm M st tr wv wp md nc nt nk ns mt mf mo mk ms ch ck cs so sa sb sd sc h
  have h0 := h
  obtain ⟨⟨hK1, hK, hL1, hL, hR1, hR, hW1, hW, hum, hsm⟩, ⟨hT, hS, hD⟩, ⟨n1, n2, n3⟩, ⟨m1, m2, m3⟩, c1, ⟨s1, s2, s3, s4⟩⟩ := h0
  unfold wpX_setUp
  dsimp only
  rcases hr_dom v1 4 (by decide) with ⟨r, hr, rfl⟩ | hb
  · refine xo_in r hr (by decide) rfl rfl (br_t rfl ?_)
    rcases lw_bz_01 v2 with e | e
    · rw [e]
      refine br_t rfl (nm_r (hr_clrX um hum r hr).1 ⟨hr_in4 rfl hr, nm_r (hr_wr nc rfl (by omega) rfl) ?_⟩)
      unfold wpY_setUp
      dsimp only
      refine yo_in r hr (by decide) rfl rfl (br_t rfl ⟨hr_in4 rfl hr, nm_r ((hr_wr (hr_B um) rfl (by omega) (y := 0) rfl).trans (hr_clrF hum hr)) (br_t rfl ⟨hr_in4 rfl hr, nm_r (hr_wr nc rfl (by omega) rfl) ⟨rfl, hr_rel (M := M) ?_⟩⟩)⟩)
      exact ⟨⟨hK1, hK, hL1, hL, hR1, hR, hW1, hW, (hr_clrX um hum r hr).2, hsm⟩, ⟨hT, hS, hD⟩, ⟨hr_NB_upd (t := 0) n1 (by decide) r, n2, n3⟩, ⟨m1, m2, m3⟩, c1, ⟨s1, s2, s3, s4⟩⟩
    · rw [e]
      refine br_f hr_10 (nm_r (hr_setX um hum r hr).1 ?_)
      unfold wpY_setUp
      dsimp only
      refine yo_in r hr (by decide) rfl rfl (br_t rfl ⟨hr_in4 rfl hr, nm_r ((hr_wr (hr_B um) rfl (by omega) (y := 1) rfl).trans (hr_setF hum hr)) (br_f hr_10 ⟨rfl, hr_rel (M := M) ?_⟩)⟩)
      exact ⟨⟨hK1, hK, hL1, hL, hR1, hR, hW1, hW, (hr_setX um hum r hr).2, hsm⟩, ⟨hT, hS, hD⟩, ⟨n1, n2, n3⟩, ⟨m1, m2, m3⟩, c1, ⟨s1, s2, s3, s4⟩⟩
  · refine xo_bad hb (br_f hr_10 ?_)
    unfold wpY_setUp
    dsimp only
    exact yo_bad hb (br_f hr_10 ⟨rfl, hr_rel h⟩)
def hr_PS (m sm i : Nat) : Nat → Int32 := fun j => if j < i then nI (m / 2 ^ j % 2) else hr_B sm j
theorem hr_PS_0 (m sm : Nat) : hr_PS m sm 0 = hr_B sm := by
  funext j
  exact if_neg (by omega)
theorem hr_PS_4 {m sm : Nat} (hm : m < 16) (hs : sm < 16) : hr_PS m sm 4 = hr_B m := by
  funext j
  by_cases c : j < 4
  · exact if_pos c
  · rw [hr_B_hi hm (by omega)]
    refine Eq.trans (if_neg c) (hr_B_hi hs (by omega))
theorem hr_PS_s (m sm i : Nat) : upd (hr_PS m sm i) i (nI (m / 2 ^ i % 2)) = hr_PS m sm (i + 1) := by
  funext j
  by_cases c : j = i
  · rw [c, pk_us]
    exact (if_pos (by omega)).symm
  · rw [pk_un c]
    show (if j < i then _ else _) = (if j < i + 1 then _ else _)
    by_cases q : j < i
    · rw [if_pos q, if_pos (by omega)]
    · rw [if_neg q, if_neg (by omega)]
section
variable {K Lq Rq Wq um sm : Nat} {M : Nat → Nat → Nat} {st wv wp nc nt nk ns mt mf mo mk ms ch ck cs so sa sb sd sc md : Nat → Int32} {tr : Nat → Int64}
theorem ypt {post : Int32 → SY → Prop} {m : Nat} (hm : m < 16) (hs : sm < 16) (h : post 0 (nI K, nI Lq, nI Rq, nI Wq, md, wv, hr_F wp, hr_F st, hr_B um, hr_B m, nc, nt, nk, hr_F ns, mt, mf, mo, mk, hr_F ms, ch, ck, hr_F cs, so, sa, sb, sd, sc)) : ∀ d i, i + d = 4 → wY_partition_15 post (nI m) (nI K) (nI Lq) (nI Rq) (nI Wq) (d + 1) (nI i) md wv (hr_F wp) (hr_F st) (hr_B um) (hr_PS m sm i) nc nt nk (hr_F ns) mt mf mo mk (hr_F ms) ch ck (hr_F cs) so sa sb sd sc := by
  intro d
  induction d with
  | zero =>
    intro i hi
    obtain rfl : i = 4 := by omega
    rw [hr_PS_4 hm hs]
    exact br_t (nI_le (a := 4) (by omega) (by decide)) h
  | succ d ih =>
    intro i hi
    refine br_f (nI_ge (b := 4) (by omega) (by decide)) ⟨hr_in4 rfl (by omega), nm_r ((hr_wr _ rfl (by omega) (hr_bitX m hm i (by omega))).trans (hr_PS_s m sm i)) (nm_r (nI_1 i) (ih (i + 1) (by omega)))⟩
end
theorem i_vc_partition {k : Nat} {u : SX} {v : SY} (I : i_Rel k u v) (hk : k + 5 ≤ 2564) (v1 : Int32) : wpX_partition (fun r u' => wpY_partition (fun r' v' => r' = r ∧ i_Rel (k + 5) u' v') v v1) u v1 := by
  refine hr_el (P := fun u v => wpX_partition (fun r u' => wpY_partition (fun r' v' => r' = r ∧ i_Rel (k + 5) u' v') v v1) u v1) ?_ I
  intro K Lq Rq Wq um sm M st tr wv wp md nc nt nk ns mt mf mo mk ms ch ck cs so sa sb sd sc h
  have h0 := h
  obtain ⟨⟨hK1, hK, hL1, hL, hR1, hR, hW1, hW, hum, hsm⟩, ⟨hT, hS, hD⟩, ⟨n1, n2, n3⟩, ⟨m1, m2, m3⟩, c1, ⟨s1, s2, s3, s4⟩⟩ := h0
  unfold wpX_partition
  dsimp only
  rcases hr_dom v1 16 (by decide) with ⟨m, hm, rfl⟩ | hb
  · refine xo_in m hm (by decide) rfl rfl (br_t rfl ?_)
    unfold wpY_partition
    dsimp only
    refine yo_in m hm (by decide) rfl rfl (br_t rfl ⟨5, ?_⟩)
    have q := ypt (post := fun r' v' => r' = 0 ∧ i_Rel (k + 5) (nI K, nI Lq, nI Rq, nI Wq, nI um, nI m, st, tr, wv, wp, nc, nt, nk, ns, mt, mf, mo, mk, ms, ch, ck, cs, so, sa, sb, sd, sc) v') (Lq := Lq) (Rq := Rq) (Wq := Wq) (K := K) (um := um) (md := md) (wv := wv) (wp := wp) (st := st) (nc := nc) (nt := nt) (nk := nk) (ns := ns) (mt := mt) (mf := mf) (mo := mo) (mk := mk) (ms := ms) (ch := ch) (ck := ck) (cs := cs) (so := so) (sa := sa) (sb := sb) (sd := sd) (sc := sc) hm hsm ⟨rfl, hr_rel (M := M) ⟨⟨hK1, hK, hL1, hL, hR1, hR, hW1, hW, hum, hm⟩, ⟨hT, hS, hD⟩, ⟨n1, n2, n3⟩, ⟨m1, m2, m3⟩, c1, ⟨s1, s2, s3, s4⟩⟩⟩ 4 0 rfl
    rw [hr_PS_0] at q
    exact q
  · refine xo_bad hb (br_f hr_10 ?_)
    unfold wpY_partition
    dsimp only
    exact yo_bad hb (br_f hr_10 ⟨rfl, hr_rel h⟩)
theorem i_vc_forget {k : Nat} {u : SX} {v : SY} (I : i_Rel k u v) (hk : k + 5 ≤ 2564) (v1 : Int32) : wpX_forget (fun r u' => wpY_forget (fun r' v' => r' = r ∧ i_Rel (k + 5) u' v') v v1) u v1 := by
  refine hr_el (P := fun u v => wpX_forget (fun r u' => wpY_forget (fun r' v' => r' = r ∧ i_Rel (k + 5) u' v') v v1) u v1) ?_ I
  intro K Lq Rq Wq um sm M st tr wv wp md nc nt nk ns mt mf mo mk ms ch ck cs so sa sb sd sc h
  have h0 := h
  obtain ⟨⟨hK1, hK, hL1, hL, hR1, hR, hW1, hW, hum, hsm⟩, ⟨hT, hS, hD⟩, ⟨n1, n2, n3⟩, ⟨m1, m2, m3⟩, c1, ⟨s1, s2, s3, s4⟩⟩ := h0
  unfold wpX_forget
  dsimp only
  rcases hr_dom v1 4 (by decide) with ⟨r, hr, rfl⟩ | hb
  · refine xo_in r hr (by decide) rfl rfl (br_t rfl ⟨hr_in4 rfl hr, nm_r (hr_wr ch rfl (by omega) rfl) ?_⟩)
    unfold wpY_forget
    dsimp only
    exact yo_in r hr (by decide) rfl rfl (br_t rfl ⟨hr_in4 rfl hr, nm_r (hr_wr ch rfl (by omega) rfl) ⟨rfl, hr_rel h⟩⟩)
  · refine xo_bad hb (br_f hr_10 ?_)
    unfold wpY_forget
    dsimp only
    exact yo_bad hb (br_f hr_10 ⟨rfl, hr_rel h⟩)
theorem i_vc_openRepair {k : Nat} {u : SX} {v : SY} (I : i_Rel k u v) (hk : k + 5 ≤ 2564) (v1 : Int32) (v2 : Int32) (v3 : Int32) (v4 : Int32) : wpX_openRepair (fun r u' => wpY_openRepair (fun r' v' => r' = r ∧ i_Rel (k + 5) u' v') v v1 v2 v3 v4) u v1 v2 v3 v4 := by
  refine hr_el (P := fun u v => wpX_openRepair (fun r u' => wpY_openRepair (fun r' v' => r' = r ∧ i_Rel (k + 5) u' v') v v1 v2 v3 v4) u v1 v2 v3 v4) ?_ I
  intro K Lq Rq Wq um sm M st tr wv wp md nc nt nk ns mt mf mo mk ms ch ck cs so sa sb sd sc h
  have h0 := h
  obtain ⟨⟨hK1, hK, hL1, hL, hR1, hR, hW1, hW, hum, hsm⟩, ⟨hT, hS, hD⟩, ⟨n1, n2, n3⟩, ⟨m1, m2, m3⟩, c1, ⟨s1, s2, s3, s4⟩⟩ := h0
  unfold wpX_openRepair
  dsimp only
  rcases hr_dom v1 4 (by decide) with ⟨s, hs, rfl⟩ | hb
  · refine xo_in s hs (by decide) rfl rfl (br_t rfl ?_)
    rcases hr_dom v2 4 (by decide) with ⟨a, ha, rfl⟩ | hb
    · refine xo_in a ha (by decide) rfl rfl (br_t rfl ?_)
      rcases hr_dom v3 4 (by decide) with ⟨b, hb, rfl⟩ | hb
      · refine xo_in b hb (by decide) rfl rfl (br_t rfl ?_)
        by_cases c : nI a = nI b
        · refine br_t c ?_
          unfold wpY_openRepair
          dsimp only
          exact yo_in s hs (by decide) rfl rfl (br_t rfl (yo_in a ha (by decide) rfl rfl (br_t rfl (yo_in b hb (by decide) rfl rfl (br_t rfl (br_t c ⟨rfl, hr_rel h⟩))))))
        · refine br_f c ?_
          rcases hr_dom v4 3 (by decide) with ⟨m, hm, rfl⟩ | hd
          · have b4 : vp_in (nI s) 4 := hr_in4 rfl hs
            refine xo_in m hm (by decide) rfl rfl (br_t rfl ⟨b4, nm_r (hr_wr so rfl (by omega) rfl) ⟨b4, nm_r (hr_wr sa rfl (by omega) rfl) ⟨b4, nm_r (hr_wr sb rfl (by omega) rfl) ⟨b4, nm_r (hr_wr sd rfl (by omega) rfl) ⟨b4, nm_r (hr_wr sc rfl (by omega) rfl) ?_⟩⟩⟩⟩⟩)
            unfold wpY_openRepair
            dsimp only
            refine yo_in s hs (by decide) rfl rfl (br_t rfl (yo_in a ha (by decide) rfl rfl (br_t rfl (yo_in b hb (by decide) rfl rfl (br_t rfl (br_f c (yo_in m hm (by decide) rfl rfl (br_t rfl ⟨b4, nm_r (hr_wr so rfl (by omega) rfl) ⟨b4, nm_r (hr_wr sa rfl (by omega) rfl) ⟨b4, nm_r (hr_wr sb rfl (by omega) rfl) ⟨b4, nm_r (hr_wr sd rfl (by omega) rfl) ⟨b4, nm_r (hr_wr sc rfl (by omega) rfl) ⟨rfl, hr_rel (M := M) ?_⟩⟩⟩⟩⟩⟩))))))))
            exact ⟨⟨hK1, hK, hL1, hL, hR1, hR, hW1, hW, hum, hsm⟩, ⟨hT, hS, hD⟩, ⟨n1, n2, n3⟩, ⟨m1, m2, m3⟩, c1, ⟨hr_NB_upd s1 ha s, hr_NB_upd s2 hb s, hr_NB_upd s3 hm s, hr_NB_upd (t := 0) s4 (by decide) s⟩⟩
          · refine xo_bad hd (br_f hr_10 ?_)
            unfold wpY_openRepair
            dsimp only
            exact yo_in s hs (by decide) rfl rfl (br_t rfl (yo_in a ha (by decide) rfl rfl (br_t rfl (yo_in b hb (by decide) rfl rfl (br_t rfl (br_f c (yo_bad hd (br_f hr_10 ⟨rfl, hr_rel h⟩))))))))
      · refine xo_bad hb (br_f hr_10 ?_)
        unfold wpY_openRepair
        dsimp only
        exact yo_in s hs (by decide) rfl rfl (br_t rfl (yo_in a ha (by decide) rfl rfl (br_t rfl (yo_bad hb (br_f hr_10 ⟨rfl, hr_rel h⟩)))))
    · refine xo_bad hb (br_f hr_10 ?_)
      unfold wpY_openRepair
      dsimp only
      exact yo_in s hs (by decide) rfl rfl (br_t rfl (yo_bad hb (br_f hr_10 ⟨rfl, hr_rel h⟩)))
  · refine xo_bad hb (br_f hr_10 ?_)
    unfold wpY_openRepair
    dsimp only
    exact yo_bad hb (br_f hr_10 ⟨rfl, hr_rel h⟩)
theorem i_vc_session {k : Nat} {u : SX} {v : SY} (I : i_Rel k u v) (hk : k + 5 ≤ 2564) (v1 : Int32) (v2 : Int32) : wpX_session (fun r => wpY_session (fun r' => r' = r ∧ i_Rel (k + 5) u v) v v1 v2) u v1 v2 := by
  refine hr_el (P := fun u v => wpX_session (fun r => wpY_session (fun r' => r' = r ∧ i_Rel (k + 5) u v) v v1 v2) u v1 v2) ?_ I
  intro K Lq Rq Wq um sm M st tr wv wp md nc nt nk ns mt mf mo mk ms ch ck cs so sa sb sd sc h
  have h0 := h
  obtain ⟨⟨hK1, hK, hL1, hL, hR1, hR, hW1, hW, hum, hsm⟩, ⟨hT, hS, hD⟩, ⟨n1, n2, n3⟩, ⟨m1, m2, m3⟩, c1, ⟨s1, s2, s3, s4⟩⟩ := h0
  unfold wpX_session
  dsimp only
  rcases hr_dom v1 4 (by decide) with ⟨s, hs, rfl⟩ | hb
  · have b4 : vp_in (nI s) 4 := hr_in4 rfl hs
    refine xo_in s hs (by decide) rfl rfl (br_t rfl ?_)
    rcases hr_dom v2 4 (by decide) with ⟨f, hf, rfl⟩ | hb
    · refine xo_in f hf (by decide) rfl rfl (br_t rfl ⟨b4, ?_⟩)
      by_cases o : so (nI s).toNatClampNeg = 0
      · refine br_t o ?_
        unfold wpY_session
        dsimp only
        exact yo_in s hs (by decide) rfl rfl (br_t rfl (yo_in f hf (by decide) rfl rfl (br_t rfl ⟨b4, br_t o ⟨rfl, hr_rel h⟩⟩)))
      · refine br_f o ?_
        by_cases f0 : nI f = 0
        · refine br_t f0 ⟨b4, ?_⟩
          unfold wpY_session
          dsimp only
          exact yo_in s hs (by decide) rfl rfl (br_t rfl (yo_in f hf (by decide) rfl rfl (br_t rfl ⟨b4, br_f o (br_t f0 ⟨b4, rfl, hr_rel h⟩)⟩)))
        · refine br_f f0 ?_
          by_cases f1 : nI f = 1
          · refine br_t f1 ⟨b4, ?_⟩
            unfold wpY_session
            dsimp only
            exact yo_in s hs (by decide) rfl rfl (br_t rfl (yo_in f hf (by decide) rfl rfl (br_t rfl ⟨b4, br_f o (br_f f0 (br_t f1 ⟨b4, rfl, hr_rel h⟩))⟩)))
          · refine br_f f1 ?_
            by_cases f2 : nI f = 2
            · refine br_t f2 ⟨b4, ?_⟩
              unfold wpY_session
              dsimp only
              exact yo_in s hs (by decide) rfl rfl (br_t rfl (yo_in f hf (by decide) rfl rfl (br_t rfl ⟨b4, br_f o (br_f f0 (br_f f1 (br_t f2 ⟨b4, rfl, hr_rel h⟩)))⟩)))
            · refine br_f f2 ⟨b4, ?_⟩
              unfold wpY_session
              dsimp only
              exact yo_in s hs (by decide) rfl rfl (br_t rfl (yo_in f hf (by decide) rfl rfl (br_t rfl ⟨b4, br_f o (br_f f0 (br_f f1 (br_f f2 ⟨b4, rfl, hr_rel h⟩)))⟩)))
    · refine xo_bad hb (br_f hr_10 ?_)
      unfold wpY_session
      dsimp only
      exact yo_in s hs (by decide) rfl rfl (br_t rfl (yo_bad hb (br_f hr_10 ⟨rfl, hr_rel h⟩)))
  · refine xo_bad hb (br_f hr_10 ?_)
    unfold wpY_session
    dsimp only
    exact yo_bad hb (br_f hr_10 ⟨rfl, hr_rel h⟩)
theorem i_vc_status {k : Nat} {u : SX} {v : SY} (I : i_Rel k u v) (hk : k + 5 ≤ 2564) (v1 : Int32) : wpX_status (fun r => wpY_status (fun r' => r' = r ∧ i_Rel (k + 5) u v) v v1) u v1 := by
  refine hr_el (P := fun u v => wpX_status (fun r => wpY_status (fun r' => r' = r ∧ i_Rel (k + 5) u v) v v1) u v1) ?_ I
  intro K Lq Rq Wq um sm M st tr wv wp md nc nt nk ns mt mf mo mk ms ch ck cs so sa sb sd sc h
  have h0 := h
  obtain ⟨⟨hK1, hK, hL1, hL, hR1, hR, hW1, hW, hum, hsm⟩, ⟨hT, hS, hD⟩, ⟨n1, n2, n3⟩, ⟨m1, m2, m3⟩, c1, ⟨s1, s2, s3, s4⟩⟩ := h0
  unfold wpX_status
  dsimp only
  rcases hr_dom v1 4 (by decide) with ⟨r, hr, rfl⟩ | hb
  · have b4 : vp_in (nI r) 4 := hr_in4 rfl hr
    refine xo_in r hr (by decide) rfl rfl (br_t rfl (nm_r (hr_bitX um hum r hr) (nm_r (hr_bitX sm hsm r hr) ⟨b4, ?_⟩)))
    unfold wpY_status
    dsimp only
    have es : hr_B sm (nI r).toNatClampNeg = nI (sm / 2 ^ r % 2) := hr_rd (hr_B sm) rfl (by omega)
    refine yo_in r hr (by decide) rfl rfl (br_t rfl ⟨b4, ?_⟩)
    by_cases u : um / 2 ^ r % 2 = 1
    · refine br_f (hr_B_t u rfl hr) ⟨b4, b4, ?_, hr_rel h⟩
      rw [es, u]
      rfl
    · refine br_t (hr_B_f u rfl hr) ⟨b4, b4, ?_, hr_rel h⟩
      rw [es, show um / 2 ^ r % 2 = 0 by omega]
      rfl
  · refine xo_bad hb (br_f hr_10 ?_)
    unfold wpY_status
    dsimp only
    exact yo_bad hb (br_f hr_10 ⟨rfl, hr_rel h⟩)
end
section
/-! queries of sets; sessions; hints -/
theorem hr_pos {v : Int32} (h1 : 1 ≤ v) : ∃ j : Nat, j < 2 ^ 31 ∧ v = nI j := by
  refine nI_of ?_
  have e : (1 : Int32).toInt = 1 := by decide
  have e0 : (0 : Int32).toInt = 0 := by decide
  rw [Int32.le_iff_toInt_le, e] at h1
  rw [Int32.lt_iff_toInt_lt, e0]
  omega
theorem i_vc_held {k : Nat} {u : SX} {v : SY} (I : i_Rel k u v) (hk : k + 5 ≤ 2564) (v1 : Int32) (v2 : Int32) (v3 : Int32) : wpX_held (fun r => wpY_held (fun r' => r' = r ∧ i_Rel (k + 5) u v) v v1 v2 v3) u v1 v2 v3 := by
  refine hr_el (P := fun u v => wpX_held (fun r => wpY_held (fun r' => r' = r ∧ i_Rel (k + 5) u v) v v1 v2 v3) u v1 v2 v3) ?_ I
  intro K Lq Rq Wq um sm M st tr wv wp md nc nt nk ns mt mf mo mk ms ch ck cs so sa sb sd sc h
  have h0 := h
  obtain ⟨⟨hK1, hK, hL1, hL, hR1, hR, hW1, hW, hum, hsm⟩, ⟨hT, hS, hD⟩, ⟨n1, n2, n3⟩, ⟨m1, m2, m3⟩, c1, ⟨s1, s2, s3, s4⟩⟩ := h0
  unfold wpX_held
  dsimp only
  have K31 : K < 2 ^ 31 := by omega
  rcases hr_dom v1 4 (by decide) with ⟨r, hr, rfl⟩ | hb
  · refine xo_in r hr (by decide) rfl rfl (br_t rfl ?_)
    rcases hr_dom v2 K K31 with ⟨j, hj, rfl⟩ | hb
    · refine xo_in j hj K31 rfl rfl (br_t rfl ?_)
      rcases hr_dom v3 33 (by decide) with ⟨f, hf, rfl⟩ | hb
      · obtain ⟨a, fX, fY⟩ := hr_field (K := K) (Lq := Lq) (Rq := Rq) (Wq := Wq) (um := um) (sm := sm) (st := st) (tr := tr) (wv := wv) (md := md) (nc := nc) (nt := nt) (nk := nk) (ns := ns) (mt := mt) (mf := mf) (mo := mo) (mk := mk) (ms := ms) (ch := ch) (ck := ck) (cs := cs) (so := so) (sa := sa) (sb := sb) (sd := sd) (sc := sc) (show j < 8 by omega) (hS.1 r hr j (by omega)) hf
        have e := hr_x8 r j
        have e' := hr_y8 r j
        refine xo_in f hf (by decide) rfl rfl (br_t rfl ⟨hr_in8 hr (by omega) e, ?_⟩)
        rw [hr_cl e (by omega)]
        refine fX _ ?_
        unfold wpY_held
        dsimp only
        refine yo_in r hr (by decide) rfl rfl (br_t rfl (yo_in j hj K31 rfl rfl (br_t rfl (yo_in f hf (by decide) rfl rfl (br_t rfl ⟨hr_in8 hr (by omega) e', ?_⟩)))))
        rw [hr_cl e' (by omega)]
        exact fY _ ⟨rfl, hr_rel h⟩
      · refine xo_bad hb (br_f hr_10 ?_)
        unfold wpY_held
        dsimp only
        exact yo_in r hr (by decide) rfl rfl (br_t rfl (yo_in j hj K31 rfl rfl (br_t rfl (yo_bad hb (br_f hr_10 ⟨rfl, hr_rel h⟩)))))
    · refine xo_bad hb (br_f hr_10 ?_)
      unfold wpY_held
      dsimp only
      exact yo_in r hr (by decide) rfl rfl (br_t rfl (yo_bad hb (br_f hr_10 ⟨rfl, hr_rel h⟩)))
  · refine xo_bad hb (br_f hr_10 ?_)
    unfold wpY_held
    dsimp only
    exact yo_bad hb (br_f hr_10 ⟨rfl, hr_rel h⟩)
theorem i_vc_context {k : Nat} {u : SX} {v : SY} (I : i_Rel k u v) (hk : k + 5 ≤ 2564) (v1 : Int32) (v2 : Int32) : wpX_context (fun r => wpY_context (fun r' => r' = r ∧ i_Rel (k + 5) u v) v v1 v2) u v1 v2 := by
  refine hr_el (P := fun u v => wpX_context (fun r => wpY_context (fun r' => r' = r ∧ i_Rel (k + 5) u v) v v1 v2) u v1 v2) ?_ I
  intro K Lq Rq Wq um sm M st tr wv wp md nc nt nk ns mt mf mo mk ms ch ck cs so sa sb sd sc h
  have h0 := h
  obtain ⟨⟨hK1, hK, hL1, hL, hR1, hR, hW1, hW, hum, hsm⟩, ⟨hT, hS, hD⟩, ⟨n1, n2, n3⟩, ⟨m1, m2, m3⟩, c1, ⟨s1, s2, s3, s4⟩⟩ := h0
  unfold wpX_context
  dsimp only
  rcases hr_dom v1 4 (by decide) with ⟨r, hr, rfl⟩ | hb
  · have b4 : vp_in (nI r) 4 := hr_in4 rfl hr
    have z : (nI r).toNatClampNeg = r := nI_clamp (by omega)
    refine xo_in r hr (by decide) rfl rfl (br_t rfl ?_)
    rcases hr_dom v2 34 (by decide) with ⟨f, hf, rfl⟩ | hb
    · refine xo_in f hf (by decide) rfl rfl (br_t rfl ⟨b4, ?_⟩)
      by_cases o : ch (nI r).toNatClampNeg = 0
      · refine br_t o ?_
        unfold wpY_context
        dsimp only
        exact yo_in r hr (by decide) rfl rfl (br_t rfl (yo_in f hf (by decide) rfl rfl (br_t rfl ⟨b4, br_t o ⟨rfl, hr_rel h⟩⟩)))
      · refine br_f o ?_
        by_cases f0 : nI f = 33
        · refine br_t f0 ⟨b4, ?_⟩
          unfold wpY_context
          dsimp only
          exact yo_in r hr (by decide) rfl rfl (br_t rfl (yo_in f hf (by decide) rfl rfl (br_t rfl ⟨b4, br_f o (br_t f0 ⟨b4, rfl, hr_rel h⟩)⟩)))
        · have f33 : f < 33 := by
            have : f ≠ 33 := fun q => f0 (by rw [q]; rfl)
            omega
          obtain ⟨j, hj, ej, wj⟩ := c1 r
          obtain ⟨a, fX, fY⟩ := hr_field (K := K) (Lq := Lq) (Rq := Rq) (Wq := Wq) (um := um) (sm := sm) (st := st) (tr := tr) (wv := wv) (md := md) (nc := nc) (nt := nt) (nk := nk) (ns := ns) (mt := mt) (mf := mf) (mo := mo) (mk := mk) (ms := ms) (ch := ch) (ck := ck) (cs := cs) (so := so) (sa := sa) (sb := sb) (sd := sd) (sc := sc) (show j < 8 by omega) wj f33
          refine br_f f0 ⟨b4, ?_⟩
          rw [z]
          refine fX _ ?_
          unfold wpY_context
          dsimp only
          refine yo_in r hr (by decide) rfl rfl (br_t rfl (yo_in f hf (by decide) rfl rfl (br_t rfl ⟨b4, br_f o (br_f f0 ⟨b4, b4, ?_⟩)⟩)))
          rw [z, ej]
          exact fY _ ⟨rfl, hr_rel h⟩
    · refine xo_bad hb (br_f hr_10 ?_)
      unfold wpY_context
      dsimp only
      exact yo_in r hr (by decide) rfl rfl (br_t rfl (yo_bad hb (br_f hr_10 ⟨rfl, hr_rel h⟩)))
  · refine xo_bad hb (br_f hr_10 ?_)
    unfold wpY_context
    dsimp only
    exact yo_bad hb (br_f hr_10 ⟨rfl, hr_rel h⟩)
theorem i_vc_message {k : Nat} {u : SX} {v : SY} (I : i_Rel k u v) (hk : k + 5 ≤ 2564) (v1 : Int32) (v2 : Int32) : wpX_message (fun r => wpY_message (fun r' => r' = r ∧ i_Rel (k + 5) u v) v v1 v2) u v1 v2 := by
  refine hr_el (P := fun u v => wpX_message (fun r => wpY_message (fun r' => r' = r ∧ i_Rel (k + 5) u v) v v1 v2) u v1 v2) ?_ I
  intro K Lq Rq Wq um sm M st tr wv wp md nc nt nk ns mt mf mo mk ms ch ck cs so sa sb sd sc h
  have h0 := h
  obtain ⟨⟨hK1, hK, hL1, hL, hR1, hR, hW1, hW, hum, hsm⟩, ⟨hT, hS, hD⟩, ⟨n1, n2, n3⟩, ⟨m1, m2, m3⟩, c1, ⟨s1, s2, s3, s4⟩⟩ := h0
  unfold wpX_message
  dsimp only
  rcases hr_dom v1 6 (by decide) with ⟨r, hr, rfl⟩ | hb
  · have b6 : vp_in (nI r) 6 := hr_in6 rfl hr
    have z : (nI r).toNatClampNeg = r := nI_clamp (by omega)
    refine xo_in r hr (by decide) rfl rfl (br_t rfl ?_)
    rcases hr_dom v2 36 (by decide) with ⟨f, hf, rfl⟩ | hb
    · refine xo_in f hf (by decide) rfl rfl (br_t rfl ⟨b6, ?_⟩)
      by_cases o : mt (nI r).toNatClampNeg = 0
      · refine br_t o ?_
        unfold wpY_message
        dsimp only
        exact yo_in r hr (by decide) rfl rfl (br_t rfl (yo_in f hf (by decide) rfl rfl (br_t rfl ⟨b6, br_t o ⟨rfl, hr_rel h⟩⟩)))
      · refine br_f o ?_
        by_cases f0 : nI f = 33
        · refine br_t f0 ⟨b6, ?_⟩
          unfold wpY_message
          dsimp only
          exact yo_in r hr (by decide) rfl rfl (br_t rfl (yo_in f hf (by decide) rfl rfl (br_t rfl ⟨b6, br_f o (br_t f0 ⟨b6, rfl, hr_rel h⟩)⟩)))
        · refine br_f f0 ?_
          by_cases f1 : nI f = 34
          · refine br_t f1 ⟨b6, ?_⟩
            unfold wpY_message
            dsimp only
            exact yo_in r hr (by decide) rfl rfl (br_t rfl (yo_in f hf (by decide) rfl rfl (br_t rfl ⟨b6, br_f o (br_f f0 (br_t f1 ⟨b6, rfl, hr_rel h⟩))⟩)))
          · refine br_f f1 ?_
            by_cases f2 : nI f = 35
            · refine br_t f2 ⟨b6, ?_⟩
              unfold wpY_message
              dsimp only
              exact yo_in r hr (by decide) rfl rfl (br_t rfl (yo_in f hf (by decide) rfl rfl (br_t rfl ⟨b6, br_f o (br_f f0 (br_f f1 (br_t f2 ⟨b6, rfl, hr_rel h⟩)))⟩)))
            · have f33 : f < 33 := by
                have q0 : f ≠ 33 := fun q => f0 (by rw [q]; rfl)
                have q1 : f ≠ 34 := fun q => f1 (by rw [q]; rfl)
                have q2 : f ≠ 35 := fun q => f2 (by rw [q]; rfl)
                omega
              obtain ⟨j, hj, ej, wj⟩ := m3 r
              obtain ⟨a, fX, fY⟩ := hr_field (K := K) (Lq := Lq) (Rq := Rq) (Wq := Wq) (um := um) (sm := sm) (st := st) (tr := tr) (wv := wv) (md := md) (nc := nc) (nt := nt) (nk := nk) (ns := ns) (mt := mt) (mf := mf) (mo := mo) (mk := mk) (ms := ms) (ch := ch) (ck := ck) (cs := cs) (so := so) (sa := sa) (sb := sb) (sd := sd) (sc := sc) (show j < 8 by omega) wj f33
              refine br_f f2 ⟨b6, ?_⟩
              rw [z]
              refine fX _ ?_
              unfold wpY_message
              dsimp only
              refine yo_in r hr (by decide) rfl rfl (br_t rfl (yo_in f hf (by decide) rfl rfl (br_t rfl ⟨b6, br_f o (br_f f0 (br_f f1 (br_f f2 ⟨b6, b6, ?_⟩)))⟩)))
              rw [z, ej]
              exact fY _ ⟨rfl, hr_rel h⟩
    · refine xo_bad hb (br_f hr_10 ?_)
      unfold wpY_message
      dsimp only
      exact yo_in r hr (by decide) rfl rfl (br_t rfl (yo_bad hb (br_f hr_10 ⟨rfl, hr_rel h⟩)))
  · refine xo_bad hb (br_f hr_10 ?_)
    unfold wpY_message
    dsimp only
    exact yo_bad hb (br_f hr_10 ⟨rfl, hr_rel h⟩)
theorem i_vc_hint {k : Nat} {u : SX} {v : SY} (I : i_Rel k u v) (hk : k + 5 ≤ 2564) (v1 : Int32) (v2 : Int32) (v3 : Int32) : wpX_hint (fun r => wpY_hint (fun r' => r' = r ∧ i_Rel (k + 5) u v) v v1 v2 v3) u v1 v2 v3 := by
  refine hr_el (P := fun u v => wpX_hint (fun r => wpY_hint (fun r' => r' = r ∧ i_Rel (k + 5) u v) v v1 v2 v3) u v1 v2 v3) ?_ I
  intro K Lq Rq Wq um sm M st tr wv wp md nc nt nk ns mt mf mo mk ms ch ck cs so sa sb sd sc h
  have h0 := h
  obtain ⟨⟨hK1, hK, hL1, hL, hR1, hR, hW1, hW, hum, hsm⟩, ⟨hT, hS, hD⟩, ⟨n1, n2, n3⟩, ⟨m1, m2, m3⟩, c1, ⟨s1, s2, s3, s4⟩⟩ := h0
  unfold wpX_hint
  dsimp only
  rcases hr_dom v1 4 (by decide) with ⟨r, hr, rfl⟩ | hb
  · have b4 : vp_in (nI r) 4 := hr_in4 rfl hr
    refine xo_in r hr (by decide) rfl rfl (br_t rfl ?_)
    rcases hr_dom v2 6 (by decide) with ⟨i, hi, rfl⟩ | hb
    · refine xo_in i hi (by decide) rfl rfl (br_t rfl ?_)
      rcases hr_dom v3 35 (by decide) with ⟨f, hf, rfl⟩ | hb
      · refine xo_in f hf (by decide) rfl rfl (br_t rfl ⟨b4, ?_⟩)
        by_cases o : nI i < nc (nI r).toNatClampNeg
        · have eX := hr_x6 r i
          have eY := hr_y6 r i
          have b24 : vp_in (nI (6 * r + i)) 24 := hr_in24 rfl (by omega)
          have z : (nI (6 * r + i)).toNatClampNeg = 6 * r + i := nI_clamp (by omega)
          refine br_t o (nm_r eX ?_)
          by_cases f0 : nI f = 33
          · refine br_t f0 ⟨b24, ?_⟩
            unfold wpY_hint
            dsimp only
            exact yo_in r hr (by decide) rfl rfl (br_t rfl (yo_in i hi (by decide) rfl rfl (br_t rfl (yo_in f hf (by decide) rfl rfl (br_t rfl ⟨b4, br_t o (nm_r eY (br_t f0 ⟨b24, rfl, hr_rel h⟩))⟩)))))
          · refine br_f f0 ?_
            by_cases f1 : nI f = 34
            · refine br_t f1 ⟨b24, ?_⟩
              unfold wpY_hint
              dsimp only
              exact yo_in r hr (by decide) rfl rfl (br_t rfl (yo_in i hi (by decide) rfl rfl (br_t rfl (yo_in f hf (by decide) rfl rfl (br_t rfl ⟨b4, br_t o (nm_r eY (br_f f0 (br_t f1 ⟨b24, rfl, hr_rel h⟩)))⟩)))))
            · have f33 : f < 33 := by
                have q0 : f ≠ 33 := fun q => f0 (by rw [q]; rfl)
                have q1 : f ≠ 34 := fun q => f1 (by rw [q]; rfl)
                omega
              obtain ⟨j, hj, ej, wj⟩ := n3 (6 * r + i)
              obtain ⟨a, fX, fY⟩ := hr_field (K := K) (Lq := Lq) (Rq := Rq) (Wq := Wq) (um := um) (sm := sm) (st := st) (tr := tr) (wv := wv) (md := md) (nc := nc) (nt := nt) (nk := nk) (ns := ns) (mt := mt) (mf := mf) (mo := mo) (mk := mk) (ms := ms) (ch := ch) (ck := ck) (cs := cs) (so := so) (sa := sa) (sb := sb) (sd := sd) (sc := sc) (show j < 8 by omega) wj f33
              refine br_f f1 ⟨b24, ?_⟩
              rw [z]
              refine fX _ ?_
              unfold wpY_hint
              dsimp only
              refine yo_in r hr (by decide) rfl rfl (br_t rfl (yo_in i hi (by decide) rfl rfl (br_t rfl (yo_in f hf (by decide) rfl rfl (br_t rfl ⟨b4, br_t o (nm_r eY (br_f f0 (br_f f1 ⟨b24, b24, ?_⟩)))⟩)))))
              rw [z, ej]
              exact fY _ ⟨rfl, hr_rel h⟩
        · refine br_f o ?_
          unfold wpY_hint
          dsimp only
          exact yo_in r hr (by decide) rfl rfl (br_t rfl (yo_in i hi (by decide) rfl rfl (br_t rfl (yo_in f hf (by decide) rfl rfl (br_t rfl ⟨b4, br_f o ⟨rfl, hr_rel h⟩⟩)))))
      · refine xo_bad hb (br_f hr_10 ?_)
        unfold wpY_hint
        dsimp only
        exact yo_in r hr (by decide) rfl rfl (br_t rfl (yo_in i hi (by decide) rfl rfl (br_t rfl (yo_bad hb (br_f hr_10 ⟨rfl, hr_rel h⟩)))))
    · refine xo_bad hb (br_f hr_10 ?_)
      unfold wpY_hint
      dsimp only
      exact yo_in r hr (by decide) rfl rfl (br_t rfl (yo_bad hb (br_f hr_10 ⟨rfl, hr_rel h⟩)))
  · refine xo_bad hb (br_f hr_10 ?_)
    unfold wpY_hint
    dsimp only
    exact yo_bad hb (br_f hr_10 ⟨rfl, hr_rel h⟩)
theorem i_vc_nextDifference {k : Nat} {u : SX} {v : SY} (I : i_Rel k u v) (hk : k + 5 ≤ 2564) (v1 : Int32) (v2 : Int32) (v3 : Int32) : wpX_nextDifference (fun r => wpY_nextDifference (fun r' => r' = r ∧ i_Rel (k + 5) u v) v v1 v2 v3) u v1 v2 v3 := by
  refine hr_el (P := fun u v => wpX_nextDifference (fun r => wpY_nextDifference (fun r' => r' = r ∧ i_Rel (k + 5) u v) v v1 v2 v3) u v1 v2 v3) ?_ I
  intro K Lq Rq Wq um sm M st tr wv wp md nc nt nk ns mt mf mo mk ms ch ck cs so sa sb sd sc h
  have h0 := h
  obtain ⟨⟨hK1, hK, hL1, hL, hR1, hR, hW1, hW, hum, hsm⟩, ⟨hT, hS, hD⟩, ⟨n1, n2, n3⟩, ⟨m1, m2, m3⟩, c1, ⟨s1, s2, s3, s4⟩⟩ := h0
  unfold wpX_nextDifference
  dsimp only
  have K31 : K < 2 ^ 31 := by omega
  rcases hr_dom v1 4 (by decide) with ⟨a, ha, rfl⟩ | hb
  · refine xo_in a ha (by decide) rfl rfl (br_t rfl ?_)
    rcases hr_dom v2 4 (by decide) with ⟨b, hb, rfl⟩ | hb
    · refine xo_in b hb (by decide) rfl rfl (br_t rfl ?_)
      rcases hr_dom v3 K K31 with ⟨f, hf, rfl⟩ | hd
      · refine xo_in f hf K31 rfl rfl (br_t rfl ?_)
        rcases hr_least (fun j => ¬ st (8 * a + j) = st (8 * b + j)) f K with ⟨k1, l1, l2, l3, l4⟩ | hn
        · refine xfd1 ha hb hK hT hS l1 l2 l3 l4 ?_
          unfold wpY_nextDifference
          dsimp only
          exact yo_in a ha (by decide) rfl rfl (br_t rfl (yo_in b hb (by decide) rfl rfl (br_t rfl (yo_in f hf K31 rfl rfl (br_t rfl ⟨k1 - f + 1, ynd_t ha hb hK hS l2 l3 ⟨rfl, hr_rel h⟩ (k1 - f) f (by omega) l4⟩)))))
        · refine xfd0 ha hb hK hT hS (by omega) hn ?_
          unfold wpY_nextDifference
          dsimp only
          exact yo_in a ha (by decide) rfl rfl (br_t rfl (yo_in b hb (by decide) rfl rfl (br_t rfl (yo_in f hf K31 rfl rfl (br_t rfl ⟨K - f + 1, ynd_f ha hb hK ⟨rfl, hr_rel h⟩ (K - f) f (by omega) hn⟩)))))
      · refine xo_bad hd (br_f hr_10 ?_)
        unfold wpY_nextDifference
        dsimp only
        exact yo_in a ha (by decide) rfl rfl (br_t rfl (yo_in b hb (by decide) rfl rfl (br_t rfl (yo_bad hd (br_f hr_10 ⟨rfl, hr_rel h⟩)))))
    · refine xo_bad hb (br_f hr_10 ?_)
      unfold wpY_nextDifference
      dsimp only
      exact yo_in a ha (by decide) rfl rfl (br_t rfl (yo_bad hb (br_f hr_10 ⟨rfl, hr_rel h⟩)))
  · refine xo_bad hb (br_f hr_10 ?_)
    unfold wpY_nextDifference
    dsimp only
    exact yo_bad hb (br_f hr_10 ⟨rfl, hr_rel h⟩)
theorem i_vc_round {k : Nat} {u : SX} {v : SY} (I : i_Rel k u v) (hk : k + 5 ≤ 2564) : wpX_round (fun r u' => wpY_round (fun r' v' => r' = r ∧ i_Rel (k + 5) u' v') v) u := by
  refine hr_el (P := fun u v => wpX_round (fun r u' => wpY_round (fun r' v' => r' = r ∧ i_Rel (k + 5) u' v') v) u) ?_ I
  intro K Lq Rq Wq um sm M st tr wv wp md nc nt nk ns mt mf mo mk ms ch ck cs so sa sb sd sc h
  have h0 := h
  obtain ⟨⟨hK1, hK, hL1, hL, hR1, hR, hW1, hW, hum, hsm⟩, ⟨hT, hS, hD⟩, ⟨n1, n2, n3⟩, ⟨m1, m2, m3⟩, c1, ⟨s1, s2, s3, s4⟩⟩ := h0
  obtain ⟨c, st', i1, iX, iY⟩ := hr_rnd (K := K) (Lq := Lq) (Rq := Rq) (Wq := Wq) (um := um) (sm := sm) (M := M) (wv := wv) (wp := wp) (nc := nc) (nt := nt) (nk := nk) (ns := ns) (mt := mt) (mf := mf) (mo := mo) (mk := mk) (ms := ms) (ch := ch) (ck := ck) (cs := cs) (so := so) (sa := sa) (sb := sb) (sd := sd) (sc := sc) (md := md) hum hsm hK 4 0 0 st rfl (by omega) hS
  refine ⟨5, iX tr hT _ (fun tr' hT' => ⟨5, iY _ ⟨rfl, hr_rel (M := M) ?_⟩⟩)⟩
  exact ⟨⟨hK1, hK, hL1, hL, hR1, hR, hW1, hW, hum, hsm⟩, ⟨hT', i1, hD⟩, ⟨n1, n2, n3⟩, ⟨m1, m2, m3⟩, c1, ⟨s1, s2, s3, s4⟩⟩
theorem i_vc_stepRepair {k : Nat} {u : SX} {v : SY} (I : i_Rel k u v) (hk : k + 5 ≤ 2564) (v1 : Int32) (v2 : Int32) : wpX_stepRepair (fun r u' => wpY_stepRepair (fun r' v' => r' = r ∧ i_Rel (k + 5) u' v') v v1 v2) u v1 v2 := by
  refine hr_el (P := fun u v => wpX_stepRepair (fun r u' => wpY_stepRepair (fun r' v' => r' = r ∧ i_Rel (k + 5) u' v') v v1 v2) u v1 v2) ?_ I
  intro K Lq Rq Wq um sm M st tr wv wp md nc nt nk ns mt mf mo mk ms ch ck cs so sa sb sd sc h
  have h0 := h
  obtain ⟨⟨hK1, hK, hL1, hL, hR1, hR, hW1, hW, hum, hsm⟩, ⟨hT, hS, hD⟩, ⟨n1, n2, n3⟩, ⟨m1, m2, m3⟩, c1, ⟨s1, s2, s3, s4⟩⟩ := h0
  unfold wpX_stepRepair
  dsimp only
  rcases hr_dom v1 4 (by decide) with ⟨s, hs, rfl⟩ | hb
  · refine xo_in s hs (by decide) rfl rfl (br_t rfl ?_)
    by_cases p1 : 1 ≤ v2
    · obtain ⟨mx, hmx, rfl⟩ := hr_pos p1
      have b4 : vp_in (nI s) 4 := hr_in4 rfl hs
      refine br_t p1 ⟨b4, ?_⟩
      by_cases o : so (nI s).toNatClampNeg = 0
      · refine br_t o ?_
        unfold wpY_stepRepair
        dsimp only
        exact yo_in s hs (by decide) rfl rfl (br_t rfl (br_t p1 ⟨b4, br_t o ⟨rfl, hr_rel h⟩⟩))
      · obtain ⟨a, ha, ea⟩ := s1 s
        obtain ⟨b, hb, eb⟩ := s2 s
        obtain ⟨m, hm, em⟩ := s3 s
        have ra : sa (nI s).toNatClampNeg = nI a := (hr_rd sa rfl (by omega)).trans ea
        have rb : sb (nI s).toNatClampNeg = nI b := (hr_rd sb rfl (by omega)).trans eb
        have rm : sd (nI s).toNatClampNeg = nI m := (hr_rd sd rfl (by omega)).trans em
        refine br_f o ⟨b4, nm_r ra ⟨b4, nm_r rb ?_⟩⟩
        cases hu : hr_rb um sm a b
        · refine xr_f hum hsm ha hb rfl rfl hu (br_t rfl ?_)
          unfold wpY_stepRepair
          dsimp only
          exact yo_in s hs (by decide) rfl rfl (br_t rfl (br_t p1 ⟨b4, br_f o ⟨b4, nm_r ra ⟨b4, nm_r rb ⟨b4, nm_r rm (yr_f ha hb rfl rfl hu (br_t rfl ⟨rfl, hr_rel h⟩))⟩⟩⟩⟩))
        · obtain ⟨c', st', so', sc', i1, i2, iX, iY⟩ := hr_step (K := K) (Lq := Lq) (Rq := Rq) (Wq := Wq) (um := um) (sm := sm) (M := M) (wv := wv) (wp := wp) (nc := nc) (nt := nt) (nk := nk) (ns := ns) (mt := mt) (mf := mf) (mo := mo) (mk := mk) (ms := ms) (ch := ch) (ck := ck) (cs := cs) (so := so) (sa := sa) (sb := sb) (sd := sd) (md := md) (mx := mx) hs ha hb hm hK hmx 9 0 0 st sc rfl (by omega) (by omega) hS s4
          refine xr_t hum hsm ha hb rfl rfl hu (br_f hr_10 ⟨b4, nm_r rm ⟨10, iX tr hT _ (fun tr' hT' => ?_)⟩⟩)
          unfold wpY_stepRepair
          dsimp only
          refine yo_in s hs (by decide) rfl rfl (br_t rfl (br_t p1 ⟨b4, br_f o ⟨b4, nm_r ra ⟨b4, nm_r rb ⟨b4, nm_r rm (yr_t ha hb rfl rfl hu (br_f hr_10 ⟨10, iY _ ⟨rfl, hr_rel (M := M) ?_⟩⟩))⟩⟩⟩⟩))
          exact ⟨⟨hK1, hK, hL1, hL, hR1, hR, hW1, hW, hum, hsm⟩, ⟨hT', i1, hD⟩, ⟨n1, n2, n3⟩, ⟨m1, m2, m3⟩, c1, ⟨s1, s2, s3, i2⟩⟩
    · refine br_f p1 ?_
      unfold wpY_stepRepair
      dsimp only
      exact yo_in s hs (by decide) rfl rfl (br_t rfl (br_f p1 ⟨rfl, hr_rel h⟩))
  · refine xo_bad hb (br_f hr_10 ?_)
    unfold wpY_stepRepair
    dsimp only
    exact yo_bad hb (br_f hr_10 ⟨rfl, hr_rel h⟩)
theorem i_vc_handoff {k : Nat} {u : SX} {v : SY} (I : i_Rel k u v) (hk : k + 5 ≤ 2564) (v1 : Int32) (v2 : Int32) (v3 : Int32) : wpX_handoff (fun r u' => wpY_handoff (fun r' v' => r' = r ∧ i_Rel (k + 5) u' v') v v1 v2 v3) u v1 v2 v3 := by
  refine hr_el (P := fun u v => wpX_handoff (fun r u' => wpY_handoff (fun r' v' => r' = r ∧ i_Rel (k + 5) u' v') v v1 v2 v3) u v1 v2 v3) ?_ I
  intro K Lq Rq Wq um sm M st tr wv wp md nc nt nk ns mt mf mo mk ms ch ck cs so sa sb sd sc h
  have h0 := h
  obtain ⟨⟨hK1, hK, hL1, hL, hR1, hR, hW1, hW, hum, hsm⟩, ⟨hT, hS, hD⟩, ⟨n1, n2, n3⟩, ⟨m1, m2, m3⟩, c1, ⟨s1, s2, s3, s4⟩⟩ := h0
  unfold wpX_handoff
  dsimp only
  rcases hr_dom v1 4 (by decide) with ⟨r, hr, rfl⟩ | hb
  · refine xo_in r hr (by decide) rfl rfl (br_t rfl ?_)
    rcases hr_dom v2 4 (by decide) with ⟨t, ht, rfl⟩ | hb
    · refine xo_in t ht (by decide) rfl rfl (br_t rfl ?_)
      by_cases e : nI r = nI t
      · refine br_t e ?_
        unfold wpY_handoff
        dsimp only
        exact yo_in r hr (by decide) rfl rfl (br_t rfl (yo_in t ht (by decide) rfl rfl (br_t rfl (br_t e ⟨rfl, hr_rel h⟩))))
      · refine br_f e ?_
        by_cases p1 : 1 ≤ v3
        · obtain ⟨mx, hmx, rfl⟩ := hr_pos p1
          have b4 : vp_in (nI r) 4 := hr_in4 rfl hr
          refine br_t p1 ?_
          by_cases u1 : um / 2 ^ r % 2 = 1
          · refine xu_t hum hr rfl u1 (br_f hr_10 ?_)
            cases hu : hr_rb um sm r t
            · refine xr_f hum hsm hr ht rfl rfl hu (br_t rfl ?_)
              unfold wpY_handoff
              dsimp only
              exact yo_in r hr (by decide) rfl rfl (br_t rfl (yo_in t ht (by decide) rfl rfl (br_t rfl (br_f e (br_t p1 ⟨b4, br_f (hr_B_t u1 rfl hr) (yr_f hr ht rfl rfl hu (br_t rfl ⟨rfl, hr_rel h⟩))⟩)))))
            · obtain ⟨c, hc, ec⟩ := n1 r
              have er : nc (nI r).toNatClampNeg = nI c := (hr_rd nc rfl (by omega)).trans ec
              obtain ⟨re', st', nc', nt', nk', ns', i1, i2, i3, i4, iX, iY⟩ := hr_hof (K := K) (Lq := Lq) (Rq := Rq) (Wq := Wq) (um := um) (sm := sm) (M := M) (wv := wv) (wp := wp) (mt := mt) (mf := mf) (mo := mo) (mk := mk) (ms := ms) (ch := ch) (ck := ck) (cs := cs) (so := so) (sa := sa) (sb := sb) (sd := sd) (sc := sc) (md := md) (mx := mx) hr ht hK hmx hc ec n1 6 0 0 0 st nt nk ns rfl (by omega) (by omega) hS n2 n3
              refine xr_t hum hsm hr ht rfl rfl hu (br_f hr_10 (nm_r (pk_mul 6 r) ⟨b4, nm_r er ⟨7, iX tr hT _ (fun tr' hT' => ?_)⟩⟩))
              unfold wpY_handoff
              dsimp only
              refine yo_in r hr (by decide) rfl rfl (br_t rfl (yo_in t ht (by decide) rfl rfl (br_t rfl (br_f e (br_t p1 ⟨b4, br_f (hr_B_t u1 rfl hr) (yr_t hr ht rfl rfl hu (br_f hr_10 ⟨7, iY _ ⟨rfl, hr_rel (M := M) ?_⟩⟩))⟩)))))
              exact ⟨⟨hK1, hK, hL1, hL, hR1, hR, hW1, hW, hum, hsm⟩, ⟨hT', i1, hD⟩, ⟨i2, i3, i4⟩, ⟨m1, m2, m3⟩, c1, ⟨s1, s2, s3, s4⟩⟩
          · refine xu_f hum hr rfl u1 (br_t rfl ?_)
            unfold wpY_handoff
            dsimp only
            exact yo_in r hr (by decide) rfl rfl (br_t rfl (yo_in t ht (by decide) rfl rfl (br_t rfl (br_f e (br_t p1 ⟨b4, br_t (hr_B_f u1 rfl hr) ⟨rfl, hr_rel h⟩⟩)))))
        · refine br_f p1 ?_
          unfold wpY_handoff
          dsimp only
          exact yo_in r hr (by decide) rfl rfl (br_t rfl (yo_in t ht (by decide) rfl rfl (br_t rfl (br_f e (br_f p1 ⟨rfl, hr_rel h⟩)))))
    · refine xo_bad hb (br_f hr_10 ?_)
      unfold wpY_handoff
      dsimp only
      exact yo_in r hr (by decide) rfl rfl (br_t rfl (yo_bad hb (br_f hr_10 ⟨rfl, hr_rel h⟩)))
  · refine xo_bad hb (br_f hr_10 ?_)
    unfold wpY_handoff
    dsimp only
    exact yo_bad hb (br_f hr_10 ⟨rfl, hr_rel h⟩)
end
section
/-! messages, writes' records, digests -/
section
variable {K Lq Rq Wq um sm : Nat} {M : Nat → Nat → Nat} {st wv wp nc nt nk ns mt mf mo mk ms ch ck cs so sa sb sd sc md : Nat → Int32} {tr : Nat → Int64}
variable {r t j : Nat}
theorem xsn_t {post : Int32 → SX → Prop} {i0 : Nat} (hr : r < 4) (hj : j < 8) (hi : i0 < 6) (h0 : mt i0 = 0) (hl : ∀ l, 0 ≤ l → l < i0 → ¬ mt l = 0) (h : post (nI i0) (nI K, nI Lq, nI Rq, nI Wq, nI um, nI sm, st, tr, wv, wp, nc, nt, nk, ns, upd mt i0 (vp_nar .boolean 1), upd mf i0 (nI r), upd mo i0 (nI t), upd mk i0 (nI j), upd ms i0 (st (8 * r + j)), ch, ck, cs, so, sa, sb, sd, sc)) : ∀ d i, i + d = i0 → wX_send_52 post (nI r) (nI t) (nI j) (nI K) (nI Lq) (nI Rq) (nI Wq) (nI um) (nI sm) st tr wv wp nc nt nk ns mt mf mo mk ms ch ck cs so sa sb sd sc (d + 1) (nI i) := by
  intro d
  induction d with
  | zero =>
    intro i hd
    obtain rfl : i = i0 := by omega
    have b := hr_in6 (e := nI i) rfl hi
    have e := hr_x8 r j
    refine br_f (nI_ge (b := 6) hi (by decide)) ⟨b, br_t ?_ ⟨b, nm_r (hr_wr mt rfl (by omega) rfl) ⟨b, nm_r (hr_wr mf rfl (by omega) rfl) ⟨b, nm_r (hr_wr mo rfl (by omega) rfl) ⟨b, nm_r (hr_wr mk rfl (by omega) rfl) ⟨hr_in8 hr hj e, b, nm_r (hr_wr ms rfl (by omega) (hr_rd st e (by omega))) h⟩⟩⟩⟩⟩⟩
    rw [nI_clamp (by omega)]
    exact h0
  | succ d ih =>
    intro i hd
    have b := hr_in6 (e := nI i) rfl (by omega)
    refine br_f (nI_ge (b := 6) (by omega) (by decide)) ⟨b, br_f ?_ (nm_r (nI_1 i) (ih (i + 1) (by omega)))⟩
    rw [nI_clamp (by omega)]
    exact hl i (Nat.zero_le _) (by omega)
theorem xsn_f {post : Int32 → SX → Prop} (hl : ∀ l, 0 ≤ l → l < 6 → ¬ mt l = 0) (h : post (-6) (nI K, nI Lq, nI Rq, nI Wq, nI um, nI sm, st, tr, wv, wp, nc, nt, nk, ns, mt, mf, mo, mk, ms, ch, ck, cs, so, sa, sb, sd, sc)) : ∀ d i, i + d = 6 → wX_send_52 post (nI r) (nI t) (nI j) (nI K) (nI Lq) (nI Rq) (nI Wq) (nI um) (nI sm) st tr wv wp nc nt nk ns mt mf mo mk ms ch ck cs so sa sb sd sc (d + 1) (nI i) := by
  intro d
  induction d with
  | zero =>
    intro i hd
    exact br_t (nI_le (a := 6) (by omega) (by omega)) h
  | succ d ih =>
    intro i hd
    have b := hr_in6 (e := nI i) rfl (by omega)
    refine br_f (nI_ge (b := 6) (by omega) (by decide)) ⟨b, br_f ?_ (nm_r (nI_1 i) (ih (i + 1) (by omega)))⟩
    rw [nI_clamp (by omega)]
    exact hl i (Nat.zero_le _) (by omega)
theorem ysn_t {post : Int32 → SY → Prop} {i0 : Nat} (hr : r < 4) (hj : j < 8) (hi : i0 < 6) (h0 : mt i0 = 0) (hl : ∀ l, 0 ≤ l → l < i0 → ¬ mt l = 0) (h : post (nI i0) (nI K, nI Lq, nI Rq, nI Wq, md, wv, hr_F wp, hr_F st, hr_B um, hr_B sm, nc, nt, nk, hr_F ns, upd mt i0 (vp_nar .boolean 1), upd mf i0 (nI r), upd mo i0 (nI t), upd mk i0 (nI j), hr_F (upd ms i0 (st (8 * r + j))), ch, ck, hr_F cs, so, sa, sb, sd, sc)) : ∀ d i, i + d = i0 → wY_send_53 post (nI r) (nI t) (nI j) (nI K) (nI Lq) (nI Rq) (nI Wq) md wv (hr_F wp) (hr_F st) (hr_B um) (hr_B sm) nc nt nk (hr_F ns) mt mf mo mk (hr_F ms) ch ck (hr_F cs) so sa sb sd sc (d + 1) (nI i) := by
  intro d
  induction d with
  | zero =>
    intro i hd
    obtain rfl : i = i0 := by omega
    have b := hr_in6 (e := nI i) rfl hi
    have e := hr_y8 r j
    have w : upd (hr_F ms) (nI i).toNatClampNeg (hr_F st (nI r * 8 + nI j).toNatClampNeg) = hr_F (upd ms i (st (8 * r + j))) := by
      rw [hr_cl e (by omega), nI_clamp (by omega), ← hr_F_upd]
      rfl
    refine br_f (nI_ge (b := 6) hi (by decide)) ⟨b, br_t ?_ ⟨b, nm_r (hr_wr mt rfl (by omega) rfl) ⟨b, nm_r (hr_wr mf rfl (by omega) rfl) ⟨b, nm_r (hr_wr mo rfl (by omega) rfl) ⟨b, nm_r (hr_wr mk rfl (by omega) rfl) ⟨hr_in8 hr hj e, b, nm_r w h⟩⟩⟩⟩⟩⟩
    rw [nI_clamp (by omega)]
    exact h0
  | succ d ih =>
    intro i hd
    have b := hr_in6 (e := nI i) rfl (by omega)
    refine br_f (nI_ge (b := 6) (by omega) (by decide)) ⟨b, br_f ?_ (nm_r (nI_1 i) (ih (i + 1) (by omega)))⟩
    rw [nI_clamp (by omega)]
    exact hl i (Nat.zero_le _) (by omega)
theorem ysn_f {post : Int32 → SY → Prop} (hl : ∀ l, 0 ≤ l → l < 6 → ¬ mt l = 0) (h : post (-6) (nI K, nI Lq, nI Rq, nI Wq, md, wv, hr_F wp, hr_F st, hr_B um, hr_B sm, nc, nt, nk, hr_F ns, mt, mf, mo, mk, hr_F ms, ch, ck, hr_F cs, so, sa, sb, sd, sc)) : ∀ d i, i + d = 6 → wY_send_53 post (nI r) (nI t) (nI j) (nI K) (nI Lq) (nI Rq) (nI Wq) md wv (hr_F wp) (hr_F st) (hr_B um) (hr_B sm) nc nt nk (hr_F ns) mt mf mo mk (hr_F ms) ch ck (hr_F cs) so sa sb sd sc (d + 1) (nI i) := by
  intro d
  induction d with
  | zero =>
    intro i hd
    exact br_t (nI_le (a := 6) (by omega) (by omega)) h
  | succ d ih =>
    intro i hd
    have b := hr_in6 (e := nI i) rfl (by omega)
    refine br_f (nI_ge (b := 6) (by omega) (by decide)) ⟨b, br_f ?_ (nm_r (nI_1 i) (ih (i + 1) (by omega)))⟩
    rw [nI_clamp (by omega)]
    exact hl i (Nat.zero_le _) (by omega)
end
theorem i_vc_send {k : Nat} {u : SX} {v : SY} (I : i_Rel k u v) (hk : k + 5 ≤ 2564) (v1 : Int32) (v2 : Int32) (v3 : Int32) : wpX_send (fun r u' => wpY_send (fun r' v' => r' = r ∧ i_Rel (k + 5) u' v') v v1 v2 v3) u v1 v2 v3 := by
  refine hr_el (P := fun u v => wpX_send (fun r u' => wpY_send (fun r' v' => r' = r ∧ i_Rel (k + 5) u' v') v v1 v2 v3) u v1 v2 v3) ?_ I
  intro K Lq Rq Wq um sm M st tr wv wp md nc nt nk ns mt mf mo mk ms ch ck cs so sa sb sd sc h
  have h0 := h
  obtain ⟨⟨hK1, hK, hL1, hL, hR1, hR, hW1, hW, hum, hsm⟩, ⟨hT, hS, hD⟩, ⟨n1, n2, n3⟩, ⟨m1, m2, m3⟩, c1, ⟨s1, s2, s3, s4⟩⟩ := h0
  unfold wpX_send
  dsimp only
  have K31 : K < 2 ^ 31 := by omega
  rcases hr_dom v1 4 (by decide) with ⟨r, hr, rfl⟩ | hb
  · refine xo_in r hr (by decide) rfl rfl (br_t rfl ?_)
    rcases hr_dom v2 4 (by decide) with ⟨t, ht, rfl⟩ | hb
    · refine xo_in t ht (by decide) rfl rfl (br_t rfl ?_)
      rcases hr_dom v3 K K31 with ⟨j, hj, rfl⟩ | hb
      · refine xo_in j hj K31 rfl rfl (br_t rfl ?_)
        by_cases e : nI r = nI t
        · refine br_t e ?_
          unfold wpY_send
          dsimp only
          exact yo_in r hr (by decide) rfl rfl (br_t rfl (yo_in t ht (by decide) rfl rfl (br_t rfl (yo_in j hj K31 rfl rfl (br_t rfl (br_t e ⟨rfl, hr_rel h⟩))))))
        · refine br_f e ?_
          by_cases u1 : um / 2 ^ r % 2 = 1
          · refine xu_t hum hr rfl u1 (br_f hr_10 ?_)
            rcases hr_least (fun l => mt l = 0) 0 6 with ⟨i0, l1, l2, l3, l4⟩ | hn
            · refine ⟨i0 + 1, xsn_t hr (by omega) l2 l3 l4 ?_ i0 0 (by omega)⟩
              unfold wpY_send
              dsimp only
              refine yo_in r hr (by decide) rfl rfl (br_t rfl (yo_in t ht (by decide) rfl rfl (br_t rfl (yo_in j hj K31 rfl rfl (br_t rfl (br_f e ⟨hr_in4 rfl hr, br_f (hr_B_t u1 rfl hr) ⟨i0 + 1, ysn_t hr (by omega) l2 l3 l4 ⟨rfl, hr_rel (M := M) ?_⟩ i0 0 (by omega)⟩⟩))))))
              exact ⟨⟨hK1, hK, hL1, hL, hR1, hR, hW1, hW, hum, hsm⟩, ⟨hT, hS, hD⟩, ⟨n1, n2, n3⟩, ⟨hr_NB_upd m1 hr _, hr_NB_upd m2 ht _, hr_KS_upd m3 hj (hS.1 r hr j (by omega)) _⟩, c1, ⟨s1, s2, s3, s4⟩⟩
            · refine ⟨7, xsn_f hn ?_ 6 0 rfl⟩
              unfold wpY_send
              dsimp only
              exact yo_in r hr (by decide) rfl rfl (br_t rfl (yo_in t ht (by decide) rfl rfl (br_t rfl (yo_in j hj K31 rfl rfl (br_t rfl (br_f e ⟨hr_in4 rfl hr, br_f (hr_B_t u1 rfl hr) ⟨7, ysn_f hn ⟨rfl, hr_rel h⟩ 6 0 rfl⟩⟩))))))
          · refine xu_f hum hr rfl u1 (br_t rfl ?_)
            unfold wpY_send
            dsimp only
            exact yo_in r hr (by decide) rfl rfl (br_t rfl (yo_in t ht (by decide) rfl rfl (br_t rfl (yo_in j hj K31 rfl rfl (br_t rfl (br_f e ⟨hr_in4 rfl hr, br_t (hr_B_f u1 rfl hr) ⟨rfl, hr_rel h⟩⟩))))))
      · refine xo_bad hb (br_f hr_10 ?_)
        unfold wpY_send
        dsimp only
        exact yo_in r hr (by decide) rfl rfl (br_t rfl (yo_in t ht (by decide) rfl rfl (br_t rfl (yo_bad hb (br_f hr_10 ⟨rfl, hr_rel h⟩)))))
    · refine xo_bad hb (br_f hr_10 ?_)
      unfold wpY_send
      dsimp only
      exact yo_in r hr (by decide) rfl rfl (br_t rfl (yo_bad hb (br_f hr_10 ⟨rfl, hr_rel h⟩)))
  · refine xo_bad hb (br_f hr_10 ?_)
    unfold wpY_send
    dsimp only
    exact yo_bad hb (br_f hr_10 ⟨rfl, hr_rel h⟩)
theorem i_vc_deliver {k : Nat} {u : SX} {v : SY} (I : i_Rel k u v) (hk : k + 5 ≤ 2564) (v1 : Int32) (v2 : Int32) : wpX_deliver (fun r u' => wpY_deliver (fun r' v' => r' = r ∧ i_Rel (k + 5) u' v') v v1 v2) u v1 v2 := by
  refine hr_el (P := fun u v => wpX_deliver (fun r u' => wpY_deliver (fun r' v' => r' = r ∧ i_Rel (k + 5) u' v') v v1 v2) u v1 v2) ?_ I
  intro K Lq Rq Wq um sm M st tr wv wp md nc nt nk ns mt mf mo mk ms ch ck cs so sa sb sd sc h
  have h0 := h
  obtain ⟨⟨hK1, hK, hL1, hL, hR1, hR, hW1, hW, hum, hsm⟩, ⟨hT, hS, hD⟩, ⟨n1, n2, n3⟩, ⟨m1, m2, m3⟩, c1, ⟨s1, s2, s3, s4⟩⟩ := h0
  unfold wpX_deliver
  dsimp only
  rcases hr_dom v1 6 (by decide) with ⟨i, hi, rfl⟩ | hb
  · have b6 : vp_in (nI i) 6 := hr_in6 rfl hi
    have z : (nI i).toNatClampNeg = i := nI_clamp (by omega)
    refine xo_in i hi (by decide) rfl rfl (br_t rfl ?_)
    rcases hr_dom v2 3 (by decide) with ⟨w, hw, rfl⟩ | hb
    · refine xo_in w hw (by decide) rfl rfl (br_t rfl ⟨b6, ?_⟩)
      by_cases o : mt (nI i).toNatClampNeg = 0
      · refine br_t o ?_
        unfold wpY_deliver
        dsimp only
        exact yo_in i hi (by decide) rfl rfl (br_t rfl (yo_in w hw (by decide) rfl rfl (br_t rfl ⟨b6, br_t o ⟨rfl, hr_rel h⟩⟩)))
      · refine br_f o ?_
        by_cases w2 : nI w = 2
        · refine br_t w2 ⟨b6, nm_r (hr_wr mt rfl (by omega) rfl) ?_⟩
          unfold wpY_deliver
          dsimp only
          exact yo_in i hi (by decide) rfl rfl (br_t rfl (yo_in w hw (by decide) rfl rfl (br_t rfl ⟨b6, br_f o (br_t w2 ⟨b6, nm_r (hr_wr mt rfl (by omega) rfl) ⟨rfl, hr_rel h⟩⟩)⟩)))
        · obtain ⟨t, ht, et⟩ := m2 i
          obtain ⟨f, hf, ef⟩ := m1 i
          obtain ⟨j, hj, ej, wj⟩ := m3 i
          have rt : mo (nI i).toNatClampNeg = nI t := (hr_rd mo rfl (by omega)).trans et
          have rf : mf (nI i).toNatClampNeg = nI f := (hr_rd mf rfl (by omega)).trans ef
          have rj : mk (nI i).toNatClampNeg = nI j := (hr_rd mk rfl (by omega)).trans ej
          refine br_f w2 ⟨b6, nm_r rt ?_⟩
          by_cases u1 : um / 2 ^ t % 2 = 1
          · refine xu_t hum ht rfl u1 (br_f hr_10 ⟨b6, ?_⟩)
            by_cases sd1 : sm / 2 ^ f % 2 = sm / 2 ^ t % 2
            · have wo := hS.1 t ht j (by omega)
              have sS := hr_ST_mg hS ht hj hK wj
              have y8 : nI t * 8 + mk (nI i).toNatClampNeg = nI (8 * t + j) := by rw [rj]; exact hr_y8 t j
              have bS : vp_in (nI (8 * t + j)) 32 := hr_in8 ht (by omega) rfl
              have ySet : upd (hr_F st) (nI (8 * t + j)).toNatClampNeg (hr_bf (st (8 * t + j)) ||| hr_F ms (nI i).toNatClampNeg) = hr_F (upd st (8 * t + j) (hr_mg (st (8 * t + j)) (ms i))) := by
                rw [nI_clamp (by omega), z, ← hr_F_upd, ← hr_bf_or]
                rfl
              have eSide : hr_B sm (mf (nI i).toNatClampNeg).toNatClampNeg = hr_B sm (nI t).toNatClampNeg := by
                rw [rf, nI_clamp (by omega), nI_clamp (by omega), hr_B_eq]
                exact sd1
              have bF : vp_in (mf (nI i).toNatClampNeg) 4 := hr_in4 rf hf
              have bT : vp_in (nI t) 4 := hr_in4 rfl ht
              have rd : hr_F st (nI (8 * t + j)).toNatClampNeg = hr_bf (st (8 * t + j)) := hr_rd (hr_F st) rfl (by omega)
              have eq : (hr_F (upd st (8 * t + j) (hr_mg (st (8 * t + j)) (ms i))) (nI (8 * t + j)).toNatClampNeg = hr_bf (st (8 * t + j))) ↔ hr_mg (st (8 * t + j)) (ms i) = st (8 * t + j) := by
                rw [nI_clamp (by omega)]
                show hr_bf (upd st (8 * t + j) (hr_mg (st (8 * t + j)) (ms i)) (8 * t + j)) = _ ↔ _
                rw [pk_us]
                exact ⟨fun q => hr_WF_bf (hr_WF_mg wo wj) wo q, fun q => by rw [q]⟩
              refine xs_t hsm hf ht rf rfl sd1 (br_f hr_10 ⟨b6, b6, ?_⟩)
              rw [z]
              refine xab ht (by omega) hT rfl ej wo.1 (fun tr1 hT1 => ?_)
              have I1 : ∀ mt', i_Rel (k + 5) (nI K, nI Lq, nI Rq, nI Wq, nI um, nI sm, upd st (8 * t + j) (hr_mg (st (8 * t + j)) (ms i)), tr1, wv, wp, nc, nt, nk, ns, mt', mf, mo, mk, ms, ch, ck, cs, so, sa, sb, sd, sc) (nI K, nI Lq, nI Rq, nI Wq, md, wv, hr_F wp, hr_F (upd st (8 * t + j) (hr_mg (st (8 * t + j)) (ms i))), hr_B um, hr_B sm, nc, nt, nk, hr_F ns, mt', mf, mo, mk, hr_F ms, ch, ck, hr_F cs, so, sa, sb, sd, sc) := by
                intro mt'
                refine hr_rel (M := M) ?_
                exact ⟨⟨hK1, hK, hL1, hL, hR1, hR, hW1, hW, hum, hsm⟩, ⟨hT1, sS, hD⟩, ⟨n1, n2, n3⟩, ⟨m1, m2, m3⟩, c1, ⟨s1, s2, s3, s4⟩⟩
              by_cases w0 : nI w = 0
              · refine br_t w0 ⟨b6, nm_r (e' := upd mt i (vp_nar .boolean 0)) rfl ?_⟩
                by_cases g : hr_mg (st (8 * t + j)) (ms i) = st (8 * t + j)
                · refine br_t (if_pos g) ?_
                  unfold wpY_deliver
                  dsimp only
                  exact yo_in i hi (by decide) rfl rfl (br_t rfl (yo_in w hw (by decide) rfl rfl (br_t rfl ⟨b6, br_f o (br_f w2 ⟨b6, nm_r rt ⟨bT, br_f (hr_B_t u1 rfl ht) ⟨b6, bF, bT, br_t eSide ⟨b6, nm_r y8 ⟨bS, nm_r rd ⟨b6, bS, nm_r ySet (br_t w0 ⟨b6, nm_r (hr_wr mt rfl (by omega) rfl) ⟨bS, br_t (eq.mpr g) ⟨rfl, I1 _⟩⟩⟩)⟩⟩⟩⟩⟩⟩)⟩)))
                · refine br_f (by rw [if_neg g]; exact hr_10) ?_
                  unfold wpY_deliver
                  dsimp only
                  exact yo_in i hi (by decide) rfl rfl (br_t rfl (yo_in w hw (by decide) rfl rfl (br_t rfl ⟨b6, br_f o (br_f w2 ⟨b6, nm_r rt ⟨bT, br_f (hr_B_t u1 rfl ht) ⟨b6, bF, bT, br_t eSide ⟨b6, nm_r y8 ⟨bS, nm_r rd ⟨b6, bS, nm_r ySet (br_t w0 ⟨b6, nm_r (hr_wr mt rfl (by omega) rfl) ⟨bS, br_f (fun q => g (eq.mp q)) ⟨rfl, I1 _⟩⟩⟩)⟩⟩⟩⟩⟩⟩)⟩)))
              · refine br_f w0 ?_
                by_cases g : hr_mg (st (8 * t + j)) (ms i) = st (8 * t + j)
                · refine br_t (if_pos g) ?_
                  unfold wpY_deliver
                  dsimp only
                  exact yo_in i hi (by decide) rfl rfl (br_t rfl (yo_in w hw (by decide) rfl rfl (br_t rfl ⟨b6, br_f o (br_f w2 ⟨b6, nm_r rt ⟨bT, br_f (hr_B_t u1 rfl ht) ⟨b6, bF, bT, br_t eSide ⟨b6, nm_r y8 ⟨bS, nm_r rd ⟨b6, bS, nm_r ySet (br_f w0 ⟨bS, br_t (eq.mpr g) ⟨rfl, I1 _⟩⟩)⟩⟩⟩⟩⟩⟩)⟩)))
                · refine br_f (by rw [if_neg g]; exact hr_10) ?_
                  unfold wpY_deliver
                  dsimp only
                  exact yo_in i hi (by decide) rfl rfl (br_t rfl (yo_in w hw (by decide) rfl rfl (br_t rfl ⟨b6, br_f o (br_f w2 ⟨b6, nm_r rt ⟨bT, br_f (hr_B_t u1 rfl ht) ⟨b6, bF, bT, br_t eSide ⟨b6, nm_r y8 ⟨bS, nm_r rd ⟨b6, bS, nm_r ySet (br_f w0 ⟨bS, br_f (fun q => g (eq.mp q)) ⟨rfl, I1 _⟩⟩)⟩⟩⟩⟩⟩⟩)⟩)))
            · refine xs_f hsm hf ht rf rfl sd1 (br_t rfl ?_)
              unfold wpY_deliver
              dsimp only
              refine yo_in i hi (by decide) rfl rfl (br_t rfl (yo_in w hw (by decide) rfl rfl (br_t rfl ⟨b6, br_f o (br_f w2 ⟨b6, nm_r rt ⟨hr_in4 rfl ht, br_f (hr_B_t u1 rfl ht) ⟨b6, hr_in4 rf hf, hr_in4 rfl ht, br_f ?_ ⟨rfl, hr_rel h⟩⟩⟩⟩)⟩)))
              rw [rf, nI_clamp (show f < 2 ^ 31 by omega), nI_clamp (show t < 2 ^ 31 by omega), hr_B_eq]
              exact sd1
          · refine xu_f hum ht rfl u1 (br_t rfl ?_)
            unfold wpY_deliver
            dsimp only
            exact yo_in i hi (by decide) rfl rfl (br_t rfl (yo_in w hw (by decide) rfl rfl (br_t rfl ⟨b6, br_f o (br_f w2 ⟨b6, nm_r rt ⟨hr_in4 rfl ht, br_t (hr_B_f u1 rfl ht) ⟨rfl, hr_rel h⟩⟩⟩)⟩)))
    · refine xo_bad hb (br_f hr_10 ?_)
      unfold wpY_deliver
      dsimp only
      exact yo_in i hi (by decide) rfl rfl (br_t rfl (yo_bad hb (br_f hr_10 ⟨rfl, hr_rel h⟩)))
  · refine xo_bad hb (br_f hr_10 ?_)
    unfold wpY_deliver
    dsimp only
    exact yo_bad hb (br_f hr_10 ⟨rfl, hr_rel h⟩)
end
section
/-! reading, writing -/
theorem i_vc_get {k : Nat} {u : SX} {v : SY} (I : i_Rel k u v) (hk : k + 5 ≤ 2564) (v1 : Int32) (v2 : Int32) (v3 : Int32) : wpX_get (fun r u' => wpY_get (fun r' v' => r' = r ∧ i_Rel (k + 5) u' v') v v1 v2 v3) u v1 v2 v3 := by
  refine hr_el (P := fun u v => wpX_get (fun r u' => wpY_get (fun r' v' => r' = r ∧ i_Rel (k + 5) u' v') v v1 v2 v3) u v1 v2 v3) ?_ I
  intro K Lq Rq Wq um sm M st tr wv wp md nc nt nk ns mt mf mo mk ms ch ck cs so sa sb sd sc h
  have h0 := h
  obtain ⟨⟨hK1, hK, hL1, hL, hR1, hR, hW1, hW, hum, hsm⟩, ⟨hT, hS, hD⟩, ⟨n1, n2, n3⟩, ⟨m1, m2, m3⟩, c1, ⟨s1, s2, s3, s4⟩⟩ := h0
  unfold wpX_get
  dsimp only
  have K31 : K < 2 ^ 31 := by omega
  rcases hr_dom v1 4 (by decide) with ⟨cl, hcl, rfl⟩ | hb
  · refine xo_in cl hcl (by decide) rfl rfl (br_t rfl ?_)
    rcases hr_dom v2 4 (by decide) with ⟨r, hr, rfl⟩ | hb
    · refine xo_in r hr (by decide) rfl rfl (br_t rfl ?_)
      rcases hr_dom v3 K K31 with ⟨j, hj, rfl⟩ | hb
      · refine xo_in j hj K31 rfl rfl (br_t rfl ?_)
        by_cases u1 : um / 2 ^ r % 2 = 1
        · have rl := hr_rn_le um sm r 4
          refine xu_t hum hr rfl u1 (br_f hr_10 (xn hum hsm hr rfl ?_))
          by_cases q : Rq ≤ hr_rn um sm r 4
          · have b4 : vp_in (nI cl) 4 := hr_in4 rfl hcl
            obtain ⟨x, wx, iX, iY⟩ := hr_get (K := K) (Lq := Lq) (Rq := Rq) (Wq := Wq) (um := um) (sm := sm) (M := M) (st := st) (tr := tr) (wv := wv) (wp := wp) (nc := nc) (nt := nt) (nk := nk) (ns := ns) (mt := mt) (mf := mf) (mo := mo) (mk := mk) (ms := ms) (ch := ch) (ck := ck) (cs := cs) (so := so) (sa := sa) (sb := sb) (sd := sd) (sc := sc) (md := md) (cl := cl) hum hsm hr hj hK hR hS 4 0 0 0 rfl (by omega) (hr_WF_0 M wp j)
            rw [hr_bf0] at iY
            refine br_t (nI_le q (by omega)) ⟨5, iX _ ⟨b4, nm_r (hr_wr ch rfl (by omega) rfl) ⟨b4, nm_r (hr_wr ck rfl (by omega) rfl) ⟨b4, nm_r (hr_wr cs rfl (by omega) rfl) (xsc wx.1 (hr_WF_FL wx) ?_)⟩⟩⟩⟩
            unfold wpY_get
            dsimp only
            refine yo_in cl hcl (by decide) rfl rfl (br_t rfl (yo_in r hr (by decide) rfl rfl (br_t rfl (yo_in j hj K31 rfl rfl (br_t rfl ⟨hr_in4 rfl hr, br_f (hr_B_t u1 rfl hr) (yn hr rfl (br_t (nI_le q (by omega)) ⟨5, iY _ (fun n p => ?_)⟩))⟩)))))
            have wc : upd (hr_F cs) (nI cl).toNatClampNeg (hr_bf x) = hr_F (upd cs cl x) := by
              rw [nI_clamp (by omega), hr_F_upd]
            refine br_t (by decide) ⟨b4, nm_r (hr_wr ch rfl (by omega) rfl) ⟨b4, nm_r (hr_wr ck rfl (by omega) rfl) ⟨b4, nm_r wc ?_⟩⟩⟩
            refine br_t (by decide) ⟨33, yfo4 (show j < 8 by omega) wx ⟨?_, hr_rel (M := M) ?_⟩ 32 0 rfl⟩
            · rw [← hr_sn_sc (hr_WF_FL wx) 4 (by omega)]
            · exact ⟨⟨hK1, hK, hL1, hL, hR1, hR, hW1, hW, hum, hsm⟩, ⟨hT, hS, hD⟩, ⟨n1, n2, n3⟩, ⟨m1, m2, m3⟩, hr_KS_upd c1 hj wx _, ⟨s1, s2, s3, s4⟩⟩
          · refine br_f (nI_ge (by omega) (by omega)) ?_
            unfold wpY_get
            dsimp only
            exact yo_in cl hcl (by decide) rfl rfl (br_t rfl (yo_in r hr (by decide) rfl rfl (br_t rfl (yo_in j hj K31 rfl rfl (br_t rfl ⟨hr_in4 rfl hr, br_f (hr_B_t u1 rfl hr) (yn hr rfl (br_f (nI_ge (by omega) (by omega)) ⟨rfl, hr_rel h⟩))⟩)))))
        · refine xu_f hum hr rfl u1 (br_t rfl ?_)
          unfold wpY_get
          dsimp only
          exact yo_in cl hcl (by decide) rfl rfl (br_t rfl (yo_in r hr (by decide) rfl rfl (br_t rfl (yo_in j hj K31 rfl rfl (br_t rfl ⟨hr_in4 rfl hr, br_t (hr_B_f u1 rfl hr) ⟨rfl, hr_rel h⟩⟩)))))
      · refine xo_bad hb (br_f hr_10 ?_)
        unfold wpY_get
        dsimp only
        exact yo_in cl hcl (by decide) rfl rfl (br_t rfl (yo_in r hr (by decide) rfl rfl (br_t rfl (yo_bad hb (br_f hr_10 ⟨rfl, hr_rel h⟩)))))
    · refine xo_bad hb (br_f hr_10 ?_)
      unfold wpY_get
      dsimp only
      exact yo_in cl hcl (by decide) rfl rfl (br_t rfl (yo_bad hb (br_f hr_10 ⟨rfl, hr_rel h⟩)))
  · refine xo_bad hb (br_f hr_10 ?_)
    unfold wpY_get
    dsimp only
    exact yo_bad hb (br_f hr_10 ⟨rfl, hr_rel h⟩)
/-! the records of writes -/
section
variable {K Lq Rq Wq um sm : Nat} {M : Nat → Nat → Nat} {st wv wp nc nt nk ns mt mf mo mk ms ch ck cs so sa sb sd sc md : Nat → Int32} {tr : Nat → Int64}
variable {post : Int32 → Prop}
theorem xim_t {j d : Nat} (hj : j < 8) (hd : d < 32) (hS : hr_ST K M wp st) (hD : hr_MD M md) (hb : bt (md j) d = true) (h : post 1) : wpX_isMade post (nI K, nI Lq, nI Rq, nI Wq, nI um, nI sm, st, tr, wv, wp, nc, nt, nk, ns, mt, mf, mo, mk, ms, ch, ck, cs, so, sa, sb, sd, sc) (nI j) (nI d) := by
  rw [hD j hj d hd, Bool.and_eq_true, decide_eq_true_eq, decide_eq_true_eq] at hb
  have e3 : nI d >>> ((3 : Int32) &&& 31) = nI (d / 8) := pk_shrN (by omega) _ 3 (by decide)
  have e4 : nI d &&& 7 = nI (d % 8) := pk_andN (by omega) 3 (by decide)
  have e8 := hr_x8 (d / 8) j
  have w := hS.1 (d / 8) (by omega) j hj
  have l := hr_ln_lt (st (8 * (d / 8) + j)) (d / 8)
  have em := hS.2.1 (d / 8) (by omega) j hj
  refine nm_r e3 (nm_r e4 (br_f (nI_nlt (b := 1) (by omega) (by omega)) ⟨hr_in8 (by omega) hj e8, xl (by rw [hr_cl e8 (by omega)]; exact w.1) (by omega) rfl ?_⟩))
  rw [hr_cl e8 (by omega)]
  exact br_f (nI_nlt (by omega) (by omega)) h
theorem xim_f {j d : Nat} (hj : j < 8) (hd : d < 32) (hS : hr_ST K M wp st) (hD : hr_MD M md) (hb : bt (md j) d = false) (h : post 0) : wpX_isMade post (nI K, nI Lq, nI Rq, nI Wq, nI um, nI sm, st, tr, wv, wp, nc, nt, nk, ns, mt, mf, mo, mk, ms, ch, ck, cs, so, sa, sb, sd, sc) (nI j) (nI d) := by
  rw [hD j hj d hd, ← Bool.not_eq_true, Bool.and_eq_true, decide_eq_true_eq, decide_eq_true_eq] at hb
  have e3 : nI d >>> ((3 : Int32) &&& 31) = nI (d / 8) := pk_shrN (by omega) _ 3 (by decide)
  have e4 : nI d &&& 7 = nI (d % 8) := pk_andN (by omega) 3 (by decide)
  have e8 := hr_x8 (d / 8) j
  have w := hS.1 (d / 8) (by omega) j hj
  have l := hr_ln_lt (st (8 * (d / 8) + j)) (d / 8)
  have em := hS.2.1 (d / 8) (by omega) j hj
  refine nm_r e3 (nm_r e4 ?_)
  by_cases c : d % 8 < 1
  · exact br_t (nI_lt (b := 1) c (by decide)) h
  · refine br_f (nI_nlt (b := 1) (by omega) (by omega)) ⟨hr_in8 (by omega) hj e8, xl (by rw [hr_cl e8 (by omega)]; exact w.1) (by omega) rfl ?_⟩
    rw [hr_cl e8 (by omega)]
    exact br_t (nI_lt (by omega) (by omega)) h
end
theorem i_vc_valueOf {k : Nat} {u : SX} {v : SY} (I : i_Rel k u v) (hk : k + 5 ≤ 2564) (v1 : Int32) (v2 : Int32) : wpX_valueOf (fun r => wpY_valueOf (fun r' => r' = r ∧ i_Rel (k + 5) u v) v v1 v2) u v1 v2 := by
  refine hr_el (P := fun u v => wpX_valueOf (fun r => wpY_valueOf (fun r' => r' = r ∧ i_Rel (k + 5) u v) v v1 v2) u v1 v2) ?_ I
  intro K Lq Rq Wq um sm M st tr wv wp md nc nt nk ns mt mf mo mk ms ch ck cs so sa sb sd sc h
  have h0 := h
  obtain ⟨⟨hK1, hK, hL1, hL, hR1, hR, hW1, hW, hum, hsm⟩, ⟨hT, hS, hD⟩, ⟨n1, n2, n3⟩, ⟨m1, m2, m3⟩, c1, ⟨s1, s2, s3, s4⟩⟩ := h0
  unfold wpX_valueOf
  dsimp only
  have K31 : K < 2 ^ 31 := by omega
  rcases hr_dom v1 K K31 with ⟨j, hj, rfl⟩ | hb
  · refine xo_in j hj K31 rfl rfl (br_t rfl ?_)
    rcases hr_dom v2 32 (by decide) with ⟨d, hd, rfl⟩ | hb
    · refine xo_in d hd (by decide) rfl rfl (br_t rfl ?_)
      have b8 : vp_in (nI j) 8 := vp_in_nI (by omega) (by decide)
      have rd : md (nI j).toNatClampNeg = md j := hr_rd md rfl (by omega)
      cases c : bt (md j) d
      · refine xim_f (by omega) hd hS hD c (br_t rfl ?_)
        unfold wpY_valueOf
        dsimp only
        exact yo_in j hj K31 rfl rfl (br_t rfl (yo_in d hd (by decide) rfl rfl (br_t rfl ⟨b8, yh_f hd rfl (by rw [rd]; exact c) (br_t rfl ⟨rfl, hr_rel h⟩)⟩)))
      · have eX := hr_x32 j d
        have eY := hr_y32 j d
        refine xim_t (by omega) hd hS hD c (br_f hr_10 ⟨pk_in (32 * j + d) 256 (by omega) eX, ?_⟩)
        unfold wpY_valueOf
        dsimp only
        refine yo_in j hj K31 rfl rfl (br_t rfl (yo_in d hd (by decide) rfl rfl (br_t rfl ⟨b8, yh_t hd rfl (by rw [rd]; exact c) (br_f hr_10 ⟨pk_in (32 * j + d) 256 (by omega) eY, ?_, hr_rel h⟩)⟩)))
        rw [hr_cl eX (by omega), hr_cl eY (by omega)]
    · refine xo_bad hb (br_f hr_10 ?_)
      unfold wpY_valueOf
      dsimp only
      exact yo_in j hj K31 rfl rfl (br_t rfl (yo_bad hb (br_f hr_10 ⟨rfl, hr_rel h⟩)))
  · refine xo_bad hb (br_f hr_10 ?_)
    unfold wpY_valueOf
    dsimp only
    exact yo_bad hb (br_f hr_10 ⟨rfl, hr_rel h⟩)
end
section
/-! pasts, digests, writes -/
theorem hr_bt7 : ∀ j, j < 32 → bt 7 j = decide (j < 3) := by decide +kernel
theorem hr_lane4 (x : Int32) {i : Nat} (hi : i < 4) : (x >>> ((3 * nI i) &&& 31)) &&& 7 = nI (hr_ln x i) := by
  have e : (3 : Int32) * nI i = nI (3 * i) := pk_mul 3 i
  rw [e]
  apply b_ext
  intro d hd
  rw [b_and, b_sshr (3 * i) (by omega) x hd, hr_bt7 d hd, hr_bt_nI _ hd]
  unfold hr_ln
  rw [← hr_8p, show (8 : Nat) = 2 ^ 3 from rfl, Nat.testBit_mod_two_pow, Nat.testBit_div_two_pow]
  by_cases c : d < 3
  · rw [decide_eq_true c, if_pos (by omega), Bool.and_true, Bool.true_and]
    show x.toBitVec.getLsbD (3 * i + d) = _
    rw [Nat.add_comm]
    rfl
  · rw [decide_eq_false c, Bool.and_false, Bool.false_and]
section
variable {K Lq Rq Wq um sm : Nat} {M : Nat → Nat → Nat} {st wv wp nc nt nk ns mt mf mo mk ms ch ck cs so sa sb sd sc md : Nat → Int32} {tr : Nat → Int64}
theorem xl4 {post : Int32 → Prop} {x y p : Int32} {i : Nat} (hi : i < 4) (hx : x = y) (hp : p = nI i) (h : post (nI (hr_ln y i))) : wpX_lane post (nI K, nI Lq, nI Rq, nI Wq, nI um, nI sm, st, tr, wv, wp, nc, nt, nk, ns, mt, mf, mo, mk, ms, ch, ck, cs, so, sa, sb, sd, sc) x p := by
  subst hp hx
  have e := hr_lane4 x hi
  show post _
  rw [e]
  exact h
end
theorem i_vc_observed {k : Nat} {u : SX} {v : SY} (I : i_Rel k u v) (hk : k + 5 ≤ 2564) (v1 : Int32) (v2 : Int32) (v3 : Int32) : wpX_observed (fun r => wpY_observed (fun r' => r' = r ∧ i_Rel (k + 5) u v) v v1 v2 v3) u v1 v2 v3 := by
  refine hr_el (P := fun u v => wpX_observed (fun r => wpY_observed (fun r' => r' = r ∧ i_Rel (k + 5) u v) v v1 v2 v3) u v1 v2 v3) ?_ I
  intro K Lq Rq Wq um sm M st tr wv wp md nc nt nk ns mt mf mo mk ms ch ck cs so sa sb sd sc h
  have h0 := h
  obtain ⟨⟨hK1, hK, hL1, hL, hR1, hR, hW1, hW, hum, hsm⟩, ⟨hT, hS, hD⟩, ⟨n1, n2, n3⟩, ⟨m1, m2, m3⟩, c1, ⟨s1, s2, s3, s4⟩⟩ := h0
  unfold wpX_observed
  dsimp only
  have K31 : K < 2 ^ 31 := by omega
  rcases hr_dom v1 K K31 with ⟨j, hj, rfl⟩ | hb
  · refine xo_in j hj K31 rfl rfl (br_t rfl ?_)
    rcases hr_dom v2 32 (by decide) with ⟨d, hd, rfl⟩ | hb
    · refine xo_in d hd (by decide) rfl rfl (br_t rfl ?_)
      rcases hr_dom v3 32 (by decide) with ⟨f, hf, rfl⟩ | hb
      · refine xo_in f hf (by decide) rfl rfl (br_t rfl ?_)
        have b8 : vp_in (nI j) 8 := vp_in_nI (by omega) (by decide)
        have rd : md (nI j).toNatClampNeg = md j := hr_rd md rfl (by omega)
        cases c : bt (md j) d
        · refine xim_f (by omega) hd hS hD c (br_t rfl ?_)
          unfold wpY_observed
          dsimp only
          exact yo_in j hj K31 rfl rfl (br_t rfl (yo_in d hd (by decide) rfl rfl (br_t rfl (yo_in f hf (by decide) rfl rfl (br_t rfl ⟨b8, yh_f hd rfl (by rw [rd]; exact c) (br_t rfl ⟨rfl, hr_rel h⟩)⟩)))))
        · refine xim_t (by omega) hd hS hD c (br_f hr_10 ?_)
          cases c2 : bt (md j) f
          · refine xim_f (by omega) hf hS hD c2 (br_t rfl ?_)
            unfold wpY_observed
            dsimp only
            exact yo_in j hj K31 rfl rfl (br_t rfl (yo_in d hd (by decide) rfl rfl (br_t rfl (yo_in f hf (by decide) rfl rfl (br_t rfl ⟨b8, yh_t hd rfl (by rw [rd]; exact c) (br_f hr_10 ⟨b8, yh_f hf rfl (by rw [rd]; exact c2) (br_t rfl ⟨rfl, hr_rel h⟩)⟩)⟩)))))
          · have eX := hr_x32 j f
            have eY := hr_y32 j f
            have e3 : nI d >>> ((3 : Int32) &&& 31) = nI (d / 8) := pk_shrN (by omega) _ 3 (by decide)
            have e4 : nI d &&& 7 = nI (d % 8) := pk_andN (by omega) 3 (by decide)
            have d1 : 1 ≤ d % 8 := by
              have q := c
              rw [hD j (by omega) d hd, Bool.and_eq_true, decide_eq_true_eq] at q
              exact q.1
            have l := hr_ln_lt (wp (32 * j + f)) (d / 8)
            have hb2 := hr_bt (x := wp (32 * j + f)) hd
            have rp : hr_F wp (nI j * 32 + nI f).toNatClampNeg = hr_bf (wp (32 * j + f)) := hr_rd (hr_F wp) eY (by omega)
            refine xim_t (by omega) hf hS hD c2 (br_f hr_10 ⟨pk_in (32 * j + f) 256 (by omega) eX, xl4 (show d / 8 < 4 by omega) (hr_rd wp eX (by omega)) e3 ?_⟩)
            rw [e4]
            by_cases g : d % 8 ≤ hr_ln (wp (32 * j + f)) (d / 8)
            · refine br_f (nI_nlt g (by omega)) ?_
              unfold wpY_observed
              dsimp only
              refine yo_in j hj K31 rfl rfl (br_t rfl (yo_in d hd (by decide) rfl rfl (br_t rfl (yo_in f hf (by decide) rfl rfl (br_t rfl ⟨b8, yh_t hd rfl (by rw [rd]; exact c) (br_f hr_10 ⟨b8, yh_t hf rfl (by rw [rd]; exact c2) (br_f hr_10 ⟨pk_in (32 * j + f) 256 (by omega) eY, yh_t hd rfl ?_ (br_f hr_10 ⟨rfl, hr_rel h⟩)⟩)⟩)⟩)))))
              rw [rp, hb2, hr_ib_iff]
              exact ⟨d1, g⟩
            · refine br_t (nI_lt (by omega) (by omega)) ?_
              unfold wpY_observed
              dsimp only
              refine yo_in j hj K31 rfl rfl (br_t rfl (yo_in d hd (by decide) rfl rfl (br_t rfl (yo_in f hf (by decide) rfl rfl (br_t rfl ⟨b8, yh_t hd rfl (by rw [rd]; exact c) (br_f hr_10 ⟨b8, yh_t hf rfl (by rw [rd]; exact c2) (br_f hr_10 ⟨pk_in (32 * j + f) 256 (by omega) eY, yh_f hd rfl ?_ (br_t rfl ⟨rfl, hr_rel h⟩)⟩)⟩)⟩)))))
              rw [rp, hb2, ← Bool.not_eq_true, hr_ib_iff]
              exact fun q => g q.2
      · refine xo_bad hb (br_f hr_10 ?_)
        unfold wpY_observed
        dsimp only
        exact yo_in j hj K31 rfl rfl (br_t rfl (yo_in d hd (by decide) rfl rfl (br_t rfl (yo_bad hb (br_f hr_10 ⟨rfl, hr_rel h⟩)))))
    · refine xo_bad hb (br_f hr_10 ?_)
      unfold wpY_observed
      dsimp only
      exact yo_in j hj K31 rfl rfl (br_t rfl (yo_bad hb (br_f hr_10 ⟨rfl, hr_rel h⟩)))
  · refine xo_bad hb (br_f hr_10 ?_)
    unfold wpY_observed
    dsimp only
    exact yo_bad hb (br_f hr_10 ⟨rfl, hr_rel h⟩)
/-! digests -/
def hr_di (x : Int32) (j : Nat) : Nat → Nat
  | 0 => 0
  | c + 1 => hr_di x j c + hr_ln x c * 2 ^ (12 * j + 3 * c)
def hr_ds (st : Nat → Int32) (r g : Nat) : Nat → Nat
  | 0 => 0
  | j + 1 => hr_ds st r g j + hr_di (st (8 * r + (4 * g + j))) j 4
theorem hr_di0 (j c : Nat) : hr_di 0 j c = 0 := by
  induction c with
  | zero => rfl
  | succ c ih =>
    show hr_di 0 j c + hr_ln 0 c * 2 ^ (12 * j + 3 * c) = 0
    rw [ih, hr_ln0, Nat.zero_mul]
theorem hr_ct_ln (x : Int32) : hr_ct x = hr_ln x 0 + hr_ln x 1 * 8 + hr_ln x 2 * 64 + hr_ln x 3 * 512 := hr_ct4 x
theorem hr_ds4 (st : Nat → Int32) (r g : Nat) : hr_ds st r g 4 = hr_hf st r g := by
  have e0 : hr_di (st (8 * r + (4 * g + 0))) 0 4 = hr_ct (st (8 * r + 2 * (2 * g))) := by
    rw [hr_ct_ln, show 8 * r + (4 * g + 0) = 8 * r + 2 * (2 * g) by omega]
    show 0 + hr_ln _ 0 * 2 ^ 0 + hr_ln _ 1 * 2 ^ 3 + hr_ln _ 2 * 2 ^ 6 + hr_ln _ 3 * 2 ^ 9 = _
    omega
  have e1 : hr_di (st (8 * r + (4 * g + 1))) 1 4 = hr_ct (st (8 * r + 2 * (2 * g) + 1)) * 4096 := by
    rw [hr_ct_ln, show 8 * r + (4 * g + 1) = 8 * r + 2 * (2 * g) + 1 by omega]
    show 0 + hr_ln _ 0 * 2 ^ 12 + hr_ln _ 1 * 2 ^ 15 + hr_ln _ 2 * 2 ^ 18 + hr_ln _ 3 * 2 ^ 21 = _
    omega
  have e2 : hr_di (st (8 * r + (4 * g + 2))) 2 4 = hr_ct (st (8 * r + 2 * (2 * g + 1))) * 16777216 := by
    rw [hr_ct_ln, show 8 * r + (4 * g + 2) = 8 * r + 2 * (2 * g + 1) by omega]
    show 0 + hr_ln _ 0 * 2 ^ 24 + hr_ln _ 1 * 2 ^ 27 + hr_ln _ 2 * 2 ^ 30 + hr_ln _ 3 * 2 ^ 33 = _
    omega
  have e3 : hr_di (st (8 * r + (4 * g + 3))) 3 4 = hr_ct (st (8 * r + 2 * (2 * g + 1) + 1)) * 68719476736 := by
    rw [hr_ct_ln, show 8 * r + (4 * g + 3) = 8 * r + 2 * (2 * g + 1) + 1 by omega]
    show 0 + hr_ln _ 0 * 2 ^ 36 + hr_ln _ 1 * 2 ^ 39 + hr_ln _ 2 * 2 ^ 42 + hr_ln _ 3 * 2 ^ 45 = _
    omega
  show 0 + hr_di (st (8 * r + (4 * g + 0))) 0 4 + hr_di (st (8 * r + (4 * g + 1))) 1 4 + hr_di (st (8 * r + (4 * g + 2))) 2 4 + hr_di (st (8 * r + (4 * g + 3))) 3 4 = _
  rw [e0, e1, e2, e3]
  unfold hr_hf hr_pr
  omega
section
variable {K Lq Rq Wq um sm : Nat} {M : Nat → Nat → Nat} {st wv wp nc nt nk ns mt mf mo mk ms ch ck cs so sa sb sd sc md : Nat → Int32} {tr : Nat → Int64}
variable {post : Int64 → Prop}
theorem ydi {J : Int64 → Int32 → Prop} {r g j s : Nat} (hr : r < 4) (hg : g < 2) (hj : j < 4) (hK : K ≤ 8) (hS : hr_ST K M wp st) (h : J (lN (s + hr_di (st (8 * r + (4 * g + j))) j 4)) (nI (j + 1))) : ∀ d c, c + d = 4 → wY_digest_36 post J (nI r) (nI g) (nI j) (nI K) (nI Lq) (nI Rq) (nI Wq) md wv (hr_F wp) (hr_F st) (hr_B um) (hr_B sm) nc nt nk (hr_F ns) mt mf mo mk (hr_F ms) ch ck (hr_F cs) so sa sb sd sc (d + 1) (lN (s + hr_di (st (8 * r + (4 * g + j))) j c)) (nI c) := by
  have e7 : 4 * nI g + nI j = nI (4 * g + j) := by
    show nI 4 * nI g + nI j = _
    rw [pk_mul, nI_add]
  intro d
  induction d with
  | zero =>
    intro c hc
    obtain rfl : c = 4 := by omega
    exact br_t (nI_le (a := 4) (by omega) (by decide)) (nm_r (nI_1 j) h)
  | succ d ih =>
    intro c hc
    have nx := ih (c + 1) (by omega)
    refine br_f (nI_ge (b := 4) (by omega) (by decide)) (nm_r e7 ?_)
    by_cases kk : K ≤ 4 * g + j
    · refine br_t (nI_le kk (by omega)) (nm_r (nI_1 c) ?_)
      rw [hS.2.2 r hr (4 * g + j) kk (by omega), hr_di0] at nx ⊢
      exact nx
    · have e8 := hr_y8 r (4 * g + j)
      have rd : hr_F st (nI r * 8 + nI (4 * g + j)).toNatClampNeg = hr_bf (st (8 * r + (4 * g + j))) := hr_rd (hr_F st) e8 (by omega)
      have l := hr_ln_lt (st (8 * r + (4 * g + j))) c
      refine br_f (nI_ge (by omega) (by omega)) ⟨hr_in8 hr (by omega) e8, yc (show c < 4 by omega) rd rfl (nm_r (e' := lN (s + hr_di (st (8 * r + (4 * g + j))) j (c + 1))) ?_ (nm_r (nI_1 c) nx))⟩
      have es : 12 * nI j + 3 * nI c = nI (12 * j + 3 * c) := by
        show nI 12 * nI j + nI 3 * nI c = _
        rw [pk_mul, pk_mul, nI_add]
      rw [es, nI_l (by omega), wb_shl _ (show 12 * j + 3 * c < 64 by omega), lN_add, Nat.add_assoc]
      rfl
theorem yds {r g : Nat} (hr : r < 4) (hg : g < 2) (hK : K ≤ 8) (hS : hr_ST K M wp st) (h : post (lN (hr_ds st r g 4))) : ∀ d j, j + d = 4 → wY_digest_27 post (nI r) (nI g) (nI K) (nI Lq) (nI Rq) (nI Wq) md wv (hr_F wp) (hr_F st) (hr_B um) (hr_B sm) nc nt nk (hr_F ns) mt mf mo mk (hr_F ms) ch ck (hr_F cs) so sa sb sd sc (d + 1) (lN (hr_ds st r g j)) (nI j) := by
  intro d
  induction d with
  | zero =>
    intro j hj
    obtain rfl : j = 4 := by omega
    exact br_t (nI_le (a := 4) (by omega) (by decide)) h
  | succ d ih =>
    intro j hj
    refine br_f (nI_ge (b := 4) (by omega) (by decide)) ⟨5, ?_⟩
    exact ydi hr hg (by omega) hK hS (ih (j + 1) (by omega)) 4 0 rfl
end
theorem i_vc_digest {k : Nat} {u : SX} {v : SY} (I : i_Rel k u v) (hk : k + 5 ≤ 2564) (v1 : Int32) (v2 : Int32) : wpX_digest (fun r => wpY_digest (fun r' => r' = r ∧ i_Rel (k + 5) u v) v v1 v2) u v1 v2 := by
  refine hr_el (P := fun u v => wpX_digest (fun r => wpY_digest (fun r' => r' = r ∧ i_Rel (k + 5) u v) v v1 v2) u v1 v2) ?_ I
  intro K Lq Rq Wq um sm M st tr wv wp md nc nt nk ns mt mf mo mk ms ch ck cs so sa sb sd sc h
  have h0 := h
  obtain ⟨⟨hK1, hK, hL1, hL, hR1, hR, hW1, hW, hum, hsm⟩, ⟨hT, hS, hD⟩, ⟨n1, n2, n3⟩, ⟨m1, m2, m3⟩, c1, ⟨s1, s2, s3, s4⟩⟩ := h0
  unfold wpX_digest
  dsimp only
  rcases hr_dom v1 4 (by decide) with ⟨r, hr, rfl⟩ | hb
  · refine xo_in r hr (by decide) rfl rfl (br_t rfl ?_)
    rcases hr_dom v2 2 (by decide) with ⟨g, hg, rfl⟩ | hb
    · have e : (16 * nI r + 2) + nI g = nI (16 * r + (2 + g)) := by
        show (nI 16 * nI r + nI 2) + nI g = _
        rw [pk_mul, nI_add, nI_add, Nat.add_assoc]
      refine xo_in g hg (by decide) rfl rfl (br_t rfl ⟨pk_in (16 * r + (2 + g)) 64 (by omega) e, ?_⟩)
      rw [hr_cl e (by omega), hT.2.2 r hr g hg, ← hr_ds4]
      unfold wpY_digest
      dsimp only
      exact yo_in r hr (by decide) rfl rfl (br_t rfl (yo_in g hg (by decide) rfl rfl (br_t rfl ⟨5, yds hr hg hK hS ⟨rfl, hr_rel h⟩ 4 0 rfl⟩)))
    · refine xo_bad hb (br_f hr_10 ?_)
      unfold wpY_digest
      dsimp only
      exact yo_in r hr (by decide) rfl rfl (br_t rfl (yo_bad hb (br_f hr_10 ⟨rfl, hr_rel h⟩)))
  · refine xo_bad hb (br_f hr_10 ?_)
    unfold wpY_digest
    dsimp only
    exact yo_bad hb (br_f hr_10 ⟨rfl, hr_rel h⟩)
end
section
/-! writing -/
section
variable {K Lq Rq Wq um sm : Nat} {M : Nat → Nat → Nat} {st wv wp nc nt nk ns mt mf mo mk ms ch ck cs so sa sb sd sc md : Nat → Int32} {tr : Nat → Int64}
theorem hr_putw {s v : Int32} {r j c : Nat} (hum : um < 16) (hsm : sm < 16) (hW : Wq ≤ 4) (hr : r < 4) (hj : j < K) (hK : K ≤ 8) (hc : c < 7) (hM : M j r = c) (hS : hr_ST K M wp st) (hs : hr_WF M wp j s) (h1 : hr_NB 7 nc) (h2 : hr_NB 4 nt) (h3 : hr_KS K M wp nk ns) :
    ∃ st' nc' nt' nk' ns' : Nat → Int32, hr_ST K (hr_M1 M j r c) (upd wp (32 * j + (8 * r + c + 1)) (s &&& 4095)) st' ∧ hr_NB 7 nc' ∧ hr_NB 4 nt' ∧ hr_KS K (hr_M1 M j r c) (upd wp (32 * j + (8 * r + c + 1)) (s &&& 4095)) nk' ns' ∧
      (∀ tr, hr_TR st tr → ∀ post : Int32 → SX → Prop, (∀ tr', hr_TR st' tr' → post (nI (8 * r + c + 1)) (nI K, nI Lq, nI Rq, nI Wq, nI um, nI sm, st', tr', upd wv (32 * j + (8 * r + c + 1)) v, upd wp (32 * j + (8 * r + c + 1)) (s &&& 4095), nc', nt', nk', ns', mt, mf, mo, mk, ms, ch, ck, cs, so, sa, sb, sd, sc)) → wX_put_131 post (nI r) (nI j) v (nI c) s (nI K) (nI Lq) (nI Rq) (nI Wq) (nI um) (nI sm) st tr wv wp nc nt nk ns mt mf mo mk ms ch ck cs so sa sb sd sc) ∧
      (∀ post : Int32 → SY → Prop, post (nI (8 * r + c + 1)) (nI K, nI Lq, nI Rq, nI Wq, upd md j (md j ||| ((1 : Int32) <<< (nI (8 * r + c + 1) &&& 31))), upd wv (32 * j + (8 * r + c + 1)) v, hr_F (upd wp (32 * j + (8 * r + c + 1)) (s &&& 4095)), hr_F st', hr_B um, hr_B sm, nc', nt', nk', hr_F ns', mt, mf, mo, mk, hr_F ms, ch, ck, hr_F cs, so, sa, sb, sd, sc) → wY_put_136 post (nI r) (nI j) v (nI (8 * r + j)) (nI c) (hr_bf s) (nI K) (nI Lq) (nI Rq) (nI Wq) md wv (hr_F wp) (hr_F st) (hr_B um) (hr_B sm) nc nt nk (hr_F ns) mt mf mo mk (hr_F ms) ch ck (hr_F cs) so sa sb sd sc) := by
  have hl : hr_ln (st (8 * r + j)) r = c := (hS.2.1 r hr j (by omega)).trans hM
  have wo := hS.1 r hr j (by omega)
  have wn := hr_WF_nw hr hc hM wo hs hl
  have sS := hr_ST_put hr hj hK hc hM hS hs
  have eX : (8 * nI r + nI c) + 1 = nI (8 * r + c + 1) := by rw [hr_x8, nI_1]
  have i32X := hr_x32 j (8 * r + c + 1)
  have i32Y := hr_y32 j (8 * r + c + 1)
  have bX := pk_in (32 * j + (8 * r + c + 1)) 256 (by omega) i32X
  have bY := pk_in (32 * j + (8 * r + c + 1)) 256 (by omega) i32Y
  obtain ⟨st', nc', nt', nk', ns', i1, i2, i3, i4, iX, iY⟩ := hr_spr (K := K) (Lq := Lq) (Rq := Rq) (Wq := Wq) (um := um) (sm := sm) (M := hr_M1 M j r c) (wv := upd wv (32 * j + (8 * r + c + 1)) v) (wp := upd wp (32 * j + (8 * r + c + 1)) (s &&& 4095)) (mt := mt) (mf := mf) (mo := mo) (mk := mk) (ms := ms) (ch := ch) (ck := ck) (cs := cs) (so := so) (sa := sa) (sb := sb) (sd := sd) (sc := sc) (md := upd md j (md j ||| ((1 : Int32) <<< (nI (8 * r + c + 1) &&& 31)))) hum hsm hW hr hj hK wn 3 1 1 (upd st (8 * r + j) (hr_nw (st (8 * r + j)) s r c)) nc nt nk ns rfl (by omega) sS h1 h2 (hr_KS_put hr hc hM h3)
  refine ⟨st', nc', nt', nk', ns', i1, i2, i3, i4, fun tr hT post h => ?_, fun post h => ?_⟩
  · refine nm_r eX ⟨bX, nm_r (hr_wr wv i32X (by omega) rfl) ⟨bX, nm_r (hr_wr wp i32X (by omega) rfl) (nm_r (e' := hr_fr s r c) (by rw [nI_1]; rfl) (xm hs.1 ?_))⟩⟩
    refine xab hr (by omega) hT rfl rfl wo.1 (fun tr1 hT1 => ?_)
    refine ⟨hr_in8 hr (by omega) (hr_x8 r j), nm_r (e' := hr_nw (st (8 * r + j)) s r c) ?_ ⟨4, ?_⟩⟩
    · rw [hr_cl (hr_x8 r j) (by omega)]
      exact pk_us
    · exact iX tr1 hT1 _ h
  · have b8 : vp_in (nI j) 8 := vp_in_nI (by omega) (by decide)
    have b32 : vp_in (nI (8 * r + j)) 32 := vp_in_nI (by omega) (by decide)
    have zj : (nI j).toNatClampNeg = j := nI_clamp (by omega)
    have z8 : (nI (8 * r + j)).toNatClampNeg = 8 * r + j := nI_clamp (by omega)
    refine nm_r eX ⟨b8, b8, nm_r (hr_wr md rfl (by omega) (by rw [zj])) ⟨bY, nm_r (hr_wr wv i32Y (by omega) rfl) ⟨bY, nm_r (e' := hr_F (upd wp (32 * j + (8 * r + c + 1)) (s &&& 4095))) ?_ ⟨b32, nm_r (e' := hr_bf (hr_nw (st (8 * r + j)) s r c)) ?_ ⟨b32, nm_r (e' := hr_F (upd st (8 * r + j) (hr_nw (st (8 * r + j)) s r c))) ?_ ⟨4, ?_⟩⟩⟩⟩⟩⟩
    · rw [hr_cl i32Y (by omega), ← hr_F_upd, hr_bf12]
    · rw [z8]
      exact hr_nw_bf hr hc hM hs hl
    · rw [z8, hr_F_upd]
    · exact iY _ post h
end
theorem i_vc_put {k : Nat} {u : SX} {v : SY} (I : i_Rel k u v) (hk : k + 5 ≤ 2564) (v1 : Int32) (v2 : Int32) (v3 : Int32) (v4 : Int32) : wpX_put (fun r u' => wpY_put (fun r' v' => r' = r ∧ i_Rel (k + 5) u' v') v v1 v2 v3 v4) u v1 v2 v3 v4 := by
  refine hr_el (P := fun u v => wpX_put (fun r u' => wpY_put (fun r' v' => r' = r ∧ i_Rel (k + 5) u' v') v v1 v2 v3 v4) u v1 v2 v3 v4) ?_ I
  intro K Lq Rq Wq um sm M st tr wv wp md nc nt nk ns mt mf mo mk ms ch ck cs so sa sb sd sc h
  have h0 := h
  obtain ⟨⟨hK1, hK, hL1, hL, hR1, hR, hW1, hW, hum, hsm⟩, ⟨hT, hS, hD⟩, ⟨n1, n2, n3⟩, ⟨m1, m2, m3⟩, c1, ⟨s1, s2, s3, s4⟩⟩ := h0
  unfold wpX_put
  dsimp only
  have K31 : K < 2 ^ 31 := by omega
  rcases hr_dom v1 4 (by decide) with ⟨cl, hcl, rfl⟩ | hb
  · refine xo_in cl hcl (by decide) rfl rfl (br_t rfl ?_)
    rcases hr_dom v2 4 (by decide) with ⟨r, hr, rfl⟩ | hb
    · refine xo_in r hr (by decide) rfl rfl (br_t rfl ?_)
      rcases hr_dom v3 K K31 with ⟨j, hj, rfl⟩ | hb
      · refine xo_in j hj K31 rfl rfl (br_t rfl ?_)
        rcases hr_dom v4 10000 (by decide) with ⟨x, hx, rfl⟩ | hb
        · refine xo_in x hx (by decide) rfl rfl (br_t rfl ?_)
          by_cases u1 : um / 2 ^ r % 2 = 1
          · have rl := hr_rn_le um sm r 4
            refine xu_t hum hr rfl u1 (br_f hr_10 (xn hum hsm hr rfl ?_))
            by_cases q : Wq ≤ hr_rn um sm r 4
            · have e8 := hr_x8 r j
              have y8 := hr_y8 r j
              have wo := hS.1 r hr j (by omega)
              have hl := hS.2.1 r hr j (by omega)
              have b32 : vp_in (nI (8 * r + j)) 32 := vp_in_nI (by omega) (by decide)
              have rdY : hr_F st (nI (8 * r + j)).toNatClampNeg = hr_bf (st (8 * r + j)) := hr_rd (hr_F st) rfl (by omega)
              have l7 := hr_ln_lt (st (8 * r + j)) r
              refine br_t (nI_le q (by omega)) ⟨hr_in8 hr (by omega) e8, ?_⟩
              rw [hr_cl e8 (by omega)]
              refine xl wo.1 (show r < 8 by omega) rfl ?_
              by_cases g : hr_ln (st (8 * r + j)) r < Lq
              · have b4 : vp_in (nI cl) 4 := hr_in4 rfl hcl
                have zc : (nI cl).toNatClampNeg = cl := nI_clamp (by omega)
                have fin : ∀ (s : Int32), hr_WF M wp j s → (∀ post : Int32 → SY → Prop, wY_put_136 post (nI r) (nI j) (nI x) (nI (8 * r + j)) (nI (hr_ln (st (8 * r + j)) r)) (hr_bf s) (nI K) (nI Lq) (nI Rq) (nI Wq) md wv (hr_F wp) (hr_F st) (hr_B um) (hr_B sm) nc nt nk (hr_F ns) mt mf mo mk (hr_F ms) ch ck (hr_F cs) so sa sb sd sc → wpY_put post (nI K, nI Lq, nI Rq, nI Wq, md, wv, hr_F wp, hr_F st, hr_B um, hr_B sm, nc, nt, nk, hr_F ns, mt, mf, mo, mk, hr_F ms, ch, ck, hr_F cs, so, sa, sb, sd, sc) (nI cl) (nI r) (nI j) (nI x)) → wX_put_131 (fun r_1 u' => wpY_put (fun r' v' => r' = r_1 ∧ i_Rel (k + 5) u' v') (nI K, nI Lq, nI Rq, nI Wq, md, wv, hr_F wp, hr_F st, hr_B um, hr_B sm, nc, nt, nk, hr_F ns, mt, mf, mo, mk, hr_F ms, ch, ck, hr_F cs, so, sa, sb, sd, sc) (nI cl) (nI r) (nI j) (nI x)) (nI r) (nI j) (nI x) (nI (hr_ln (st (8 * r + j)) r)) s (nI K) (nI Lq) (nI Rq) (nI Wq) (nI um) (nI sm) st tr wv wp nc nt nk ns mt mf mo mk ms ch ck cs so sa sb sd sc := by
                  intro s ws hY
                  have c7 : hr_ln (st (8 * r + j)) r < 7 := by omega
                  obtain ⟨st', nc', nt', nk', ns', i1, i2, i3, i4, iX, iY⟩ := hr_putw (K := K) (Lq := Lq) (Rq := Rq) (Wq := Wq) (um := um) (sm := sm) (M := M) (st := st) (wv := wv) (wp := wp) (nc := nc) (nt := nt) (nk := nk) (ns := ns) (mt := mt) (mf := mf) (mo := mo) (mk := mk) (ms := ms) (ch := ch) (ck := ck) (cs := cs) (so := so) (sa := sa) (sb := sb) (sd := sd) (sc := sc) (md := md) (v := nI x) hum hsm hW hr hj hK c7 hl.symm hS ws n1 n2 n3
                  refine iX tr hT _ (fun tr' hT' => hY _ (iY _ ⟨rfl, hr_rel (M := hr_M1 M j r (hr_ln (st (8 * r + j)) r)) ?_⟩))
                  exact ⟨⟨hK1, hK, hL1, hL, hR1, hR, hW1, hW, hum, hsm⟩, ⟨hT', i1, hr_MD_put hr c7 hl.symm hD⟩, ⟨i2, i3, i4⟩, ⟨m1, m2, hr_KS_put hr c7 hl.symm m3⟩, hr_KS_put hr c7 hl.symm c1, ⟨s1, s2, s3, s4⟩⟩
                refine br_t (nI_lt g (by omega)) ⟨b4, ?_⟩
                by_cases o : ch (nI cl).toNatClampNeg = 0
                · refine br_t o (fin 0 (hr_WF_0 M wp j) (fun post p => ?_))
                  rw [hr_bf0] at p
                  unfold wpY_put
                  dsimp only
                  exact yo_in cl hcl (by decide) rfl rfl (br_t rfl (yo_in r hr (by decide) rfl rfl (br_t rfl (yo_in j hj K31 rfl rfl (br_t rfl (yo_in x hx (by decide) rfl rfl (br_t rfl ⟨hr_in4 rfl hr, br_f (hr_B_t u1 rfl hr) (yn hr rfl (br_t (nI_le q (by omega)) (nm_r y8 ⟨b32, yc hr rdY rfl (br_t (nI_lt g (by omega)) ⟨b4, br_t o p⟩)⟩)))⟩)))))))
                · refine br_f o ⟨b4, ?_⟩
                  by_cases e : ck (nI cl).toNatClampNeg = nI j
                  · obtain ⟨kk, hkk, ek, wk⟩ := c1 cl
                    have e2 := e
                    rw [zc, ek, nI_eq (by omega) (by omega)] at e2
                    subst e2
                    refine br_t e ⟨b4, nm_r (hr_rd cs rfl (by omega)) (fin (cs cl) wk (fun post p => ?_))⟩
                    unfold wpY_put
                    dsimp only
                    exact yo_in cl hcl (by decide) rfl rfl (br_t rfl (yo_in r hr (by decide) rfl rfl (br_t rfl (yo_in kk hj K31 rfl rfl (br_t rfl (yo_in x hx (by decide) rfl rfl (br_t rfl ⟨hr_in4 rfl hr, br_f (hr_B_t u1 rfl hr) (yn hr rfl (br_t (nI_le q (by omega)) (nm_r y8 ⟨b32, yc hr rdY rfl (br_t (nI_lt g (by omega)) ⟨b4, br_f o ⟨b4, br_t e ⟨b4, nm_r (hr_rd (hr_F cs) rfl (by omega)) p⟩⟩⟩)⟩)))⟩)))))))
                  · refine br_f e (fin 0 (hr_WF_0 M wp j) (fun post p => ?_))
                    rw [hr_bf0] at p
                    unfold wpY_put
                    dsimp only
                    exact yo_in cl hcl (by decide) rfl rfl (br_t rfl (yo_in r hr (by decide) rfl rfl (br_t rfl (yo_in j hj K31 rfl rfl (br_t rfl (yo_in x hx (by decide) rfl rfl (br_t rfl ⟨hr_in4 rfl hr, br_f (hr_B_t u1 rfl hr) (yn hr rfl (br_t (nI_le q (by omega)) (nm_r y8 ⟨b32, yc hr rdY rfl (br_t (nI_lt g (by omega)) ⟨b4, br_f o ⟨b4, br_f e p⟩⟩)⟩)))⟩)))))))
              · refine br_f (nI_nlt (by omega) (by omega)) ?_
                unfold wpY_put
                dsimp only
                exact yo_in cl hcl (by decide) rfl rfl (br_t rfl (yo_in r hr (by decide) rfl rfl (br_t rfl (yo_in j hj K31 rfl rfl (br_t rfl (yo_in x hx (by decide) rfl rfl (br_t rfl ⟨hr_in4 rfl hr, br_f (hr_B_t u1 rfl hr) (yn hr rfl (br_t (nI_le q (by omega)) (nm_r y8 ⟨b32, yc hr rdY rfl (br_f (nI_nlt (by omega) (by omega)) ⟨rfl, hr_rel h⟩)⟩)))⟩)))))))
            · refine br_f (nI_ge (by omega) (by omega)) ?_
              unfold wpY_put
              dsimp only
              exact yo_in cl hcl (by decide) rfl rfl (br_t rfl (yo_in r hr (by decide) rfl rfl (br_t rfl (yo_in j hj K31 rfl rfl (br_t rfl (yo_in x hx (by decide) rfl rfl (br_t rfl ⟨hr_in4 rfl hr, br_f (hr_B_t u1 rfl hr) (yn hr rfl (br_f (nI_ge (by omega) (by omega)) ⟨rfl, hr_rel h⟩))⟩)))))))
          · refine xu_f hum hr rfl u1 (br_t rfl ?_)
            unfold wpY_put
            dsimp only
            exact yo_in cl hcl (by decide) rfl rfl (br_t rfl (yo_in r hr (by decide) rfl rfl (br_t rfl (yo_in j hj K31 rfl rfl (br_t rfl (yo_in x hx (by decide) rfl rfl (br_t rfl ⟨hr_in4 rfl hr, br_t (hr_B_f u1 rfl hr) ⟨rfl, hr_rel h⟩⟩)))))))
        · refine xo_bad hb (br_f hr_10 ?_)
          unfold wpY_put
          dsimp only
          exact yo_in cl hcl (by decide) rfl rfl (br_t rfl (yo_in r hr (by decide) rfl rfl (br_t rfl (yo_in j hj K31 rfl rfl (br_t rfl (yo_bad hb (br_f hr_10 ⟨rfl, hr_rel h⟩)))))))
      · refine xo_bad hb (br_f hr_10 ?_)
        unfold wpY_put
        dsimp only
        exact yo_in cl hcl (by decide) rfl rfl (br_t rfl (yo_in r hr (by decide) rfl rfl (br_t rfl (yo_bad hb (br_f hr_10 ⟨rfl, hr_rel h⟩)))))
    · refine xo_bad hb (br_f hr_10 ?_)
      unfold wpY_put
      dsimp only
      exact yo_in cl hcl (by decide) rfl rfl (br_t rfl (yo_bad hb (br_f hr_10 ⟨rfl, hr_rel h⟩)))
  · refine xo_bad hb (br_f hr_10 ?_)
    unfold wpY_put
    dsimp only
    exact yo_bad hb (br_f hr_10 ⟨rfl, hr_rel h⟩)
end
