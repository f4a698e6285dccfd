section
/-! rows pasted from kit/rows (starting text) -/
theorem pk_us {f : Nat → Int32} {k : Nat} {x : Int32} : upd f k x k = x := if_pos rfl
theorem pk_un {f : Nat → Int32} {k j : Nat} {x : Int32} (h : j ≠ k) : upd f k x j = f j := if_neg h
theorem pk_uLs {f : Nat → Int64} {k : Nat} {x : Int64} : vp_updL f k x k = x := if_pos rfl
theorem pk_uLn {f : Nat → Int64} {k j : Nat} {x : Int64} (h : j ≠ k) : vp_updL f k x j = f j := if_neg h
theorem pk_sub {a b : Nat} (h : b ≤ a) : nI a - nI b = nI (a - b) := by
  obtain ⟨c, rfl⟩ : ∃ c, a = c + b := ⟨a - b, by omega⟩
  rw [← nI_add, Int32.add_sub_cancel, Nat.add_sub_cancel]
theorem pk_m1 (n : Nat) : nI (n + 1) + (-1) = nI n := by
  rw [← nI_1, Int32.add_assoc, show (1 : Int32) + (-1) = 0 from rfl, Int32.add_zero]
theorem pk_mul (a b : Nat) : nI a * nI b = nI (a * b) := (Int32.ofNat_mul a b).symm
theorem pk_div {a d : Nat} (ha : a < 2 ^ 31) (h0 : 0 < d) (hd : d < 2 ^ 31) : nI a / nI d = nI (a / d) := by
  apply Int32.toInt_inj.mp
  rw [lg_idiv_nonneg (by rw [nI_toInt ha]; omega) (by rw [nI_toInt hd]; omega), nI_toInt ha, nI_toInt hd, nI_toInt (Nat.lt_of_le_of_lt (Nat.div_le_self a d) ha)]
  first | rfl | exact (Int.natCast_ediv _ _).symm
theorem pk_rem {a d : Nat} (ha : a < 2 ^ 31) (h0 : 0 < d) (hd : d < 2 ^ 31) : nI a - nI a / nI d * nI d = nI (a % d) := by
  rw [pk_div ha h0 hd, pk_mul, pk_sub (Nat.div_mul_le_self a d)]
  exact congrArg nI (by have := Nat.div_add_mod' a d; omega)
theorem pk_sub_toInt {a b : Nat} (ha : a < 2 ^ 30) (hb : b < 2 ^ 30) : (nI a - nI b).toInt = (a : Int) - b := by
  rw [Int32.toInt_sub, nI_toInt (by omega), nI_toInt (by omega)]
  exact Int.bmod_eq_of_le (by omega) (by omega)
theorem pk_sneg {a b : Nat} (hb : b < 2 ^ 30) (h : a < b) : nI a - nI b < 0 := by
  rw [Int32.lt_iff_toInt_lt, pk_sub_toInt (by omega) hb, show (0 : Int32).toInt = 0 from by decide]
  omega
theorem pk_ix (x : Int32) {n : Nat} (hn : n < 2 ^ 31) : x < 0 ∨ nI n ≤ x ∨ ∃ j : Nat, j < n ∧ x = nI j := by
  by_cases h : x < 0
  · exact Or.inl h
  · obtain ⟨j, hj, rfl⟩ := nI_of h
    by_cases h2 : j < n
    · exact Or.inr (Or.inr ⟨j, h2, rfl⟩)
    · exact Or.inr (Or.inl (nI_le (by omega) hj))
theorem pk_le {x y : Int32} {A B : Prop} (a b : Nat) (f : a ≤ b → A) (g : b < a → B) (hx : x = nI a := by rfl) (hy : y = nI b := by rfl) (ha : a < 2 ^ 31 := by omega) (hb : b < 2 ^ 31 := by omega) : (x ≤ y → A) ∧ (¬ x ≤ y → B) := by
  subst hx hy
  rw [nI_leI ha hb]
  exact ⟨f, fun z => g (by omega)⟩
theorem pk_lt {x y : Int32} {A B : Prop} (a b : Nat) (f : a < b → A) (g : b ≤ a → B) (hx : x = nI a := by rfl) (hy : y = nI b := by rfl) (ha : a < 2 ^ 31 := by omega) (hb : b < 2 ^ 31 := by omega) : (x < y → A) ∧ (¬ x < y → B) := by
  subst hx hy
  rw [nI_ltI ha hb]
  exact ⟨f, fun z => g (by omega)⟩
theorem pk_eq {x y : Int32} {A B : Prop} (a b : Nat) (f : a = b → A) (g : a ≠ b → B) (hx : x = nI a := by rfl) (hy : y = nI b := by rfl) (ha : a < 2 ^ 31 := by omega) (hb : b < 2 ^ 31 := by omega) : (x = y → A) ∧ (¬ x = y → B) := by
  subst hx hy
  rw [nI_eq ha hb]
  exact ⟨f, g⟩
theorem pk_in {x : Int32} (n N : Nat) (h : n < N) (hx : x = nI n := by rfl) (hN : N < 2 ^ 31 := by omega) : vp_in x N := by
  subst hx
  exact vp_in_nI h hN
theorem pk_cl {x : Int32} (n : Nat) (hx : x = nI n := by rfl) (h : n < 2 ^ 31 := by omega) : x.toNatClampNeg = n := by
  subst hx
  exact nI_clamp h
theorem pk_tn {n : Nat} (h : n < 2 ^ 32) : (nI n).toBitVec.toNat = n := Nat.mod_eq_of_lt h
theorem pk_and (x : Int32) {m : Int32} (k : Nat) (hm : m.toBitVec.toNat = 2 ^ k - 1) : x &&& m = nI (x.toBitVec.toNat % 2 ^ k) := by
  apply Int32.toBitVec_inj.mp
  apply BitVec.eq_of_toNat_eq
  rw [Int32.toBitVec_and, BitVec.toNat_and, hm, Nat.and_two_pow_sub_one_eq_mod]
  show _ = (BitVec.ofNat 32 _).toNat
  rw [BitVec.toNat_ofNat]
  exact (Nat.mod_eq_of_lt (Nat.lt_of_le_of_lt (Nat.mod_le _ _) x.toBitVec.isLt)).symm
theorem pk_andN {n : Nat} (h : n < 2 ^ 32) {m : Int32} (k : Nat) (hm : m.toBitVec.toNat = 2 ^ k - 1) : nI n &&& m = nI (n % 2 ^ k) := by
  rw [pk_and _ k hm, pk_tn h]
theorem pk_andE (x : Int32) {m : Int32} (k : Nat) (hm : m.toBitVec.toNat = 2 ^ k - 1) : ∃ j : Nat, j < 2 ^ k ∧ x &&& m = nI j := ⟨_, Nat.mod_lt _ (Nat.two_pow_pos k), pk_and x k hm⟩
theorem pk_andIn (x : Int32) {m : Int32} (k : Nat) (hm : m.toBitVec.toNat = 2 ^ k - 1) (hk : k ≤ 30) : vp_in (x &&& m) (2 ^ k) := by
  obtain ⟨j, hj, e⟩ := pk_andE x k hm
  rw [e]
  exact vp_in_nI hj (Nat.lt_of_le_of_lt (Nat.pow_le_pow_right (by decide) hk) (by decide))
theorem pk_shl (a s : Int32) (k : Nat) (hs : (s.toBitVec.smod 32).toNat = k) : (a <<< s).toBitVec.toNat = a.toBitVec.toNat * 2 ^ k % 2 ^ 32 := by
  show (a.toBitVec <<< (s.toBitVec.smod 32).toNat).toNat = _
  rw [hs, BitVec.toNat_shiftLeft, Nat.shiftLeft_eq]
theorem pk_shlN {n : Nat} (s : Int32) (k : Nat) (hs : (s.toBitVec.smod 32).toNat = k) (h : n * 2 ^ k < 2 ^ 32) : nI n <<< s = nI (n * 2 ^ k) := by
  apply Int32.toBitVec_inj.mp
  apply BitVec.eq_of_toNat_eq
  have hn : n < 2 ^ 32 := Nat.lt_of_le_of_lt (Nat.le_mul_of_pos_right n (Nat.two_pow_pos k)) h
  rw [pk_shl _ _ k hs, pk_tn hn, pk_tn h, Nat.mod_eq_of_lt h]
theorem pk_shr (a s : Int32) (k : Nat) (hs : (s.toBitVec.smod 32).toNat = k) : (a >>> s).toInt = a.toInt >>> k := by
  show (a.toBitVec.sshiftRight (s.toBitVec.smod 32).toNat).toInt = _
  rw [hs, BitVec.toInt_sshiftRight]
  rfl
theorem pk_shrN {n : Nat} (h : n < 2 ^ 31) (s : Int32) (k : Nat) (hs : (s.toBitVec.smod 32).toNat = k) : nI n >>> s = nI (n / 2 ^ k) := by
  apply Int32.toInt_inj.mp
  have h2 : n / 2 ^ k ≤ n := Nat.div_le_self _ _
  rw [pk_shr _ _ k hs, nI_toInt h, nI_toInt (by omega), Int.shiftRight_eq_div_pow]
  rfl
theorem pk_ushr (x s : Int32) (k : Nat) (hs : ((s.toUInt32 &&& Int32.toUInt32 31).toBitVec % 32).toNat = k) : (x.toUInt32 >>> (s.toUInt32 &&& Int32.toUInt32 31)).toInt32.toBitVec.toNat = x.toBitVec.toNat / 2 ^ k := by
  have e : (x.toUInt32 >>> (s.toUInt32 &&& Int32.toUInt32 31)).toInt32.toBitVec = x.toBitVec >>> k := by
    rw [← hs]
    exact UInt32.toBitVec_shiftRight _ _
  rw [e, BitVec.toNat_ushiftRight, Nat.shiftRight_eq_div_pow]
theorem pk_ushrN {n : Nat} (hn : n < 2 ^ 32) (s : Int32) (k : Nat) (hs : ((s.toUInt32 &&& Int32.toUInt32 31).toBitVec % 32).toNat = k) : ((nI n).toUInt32 >>> (s.toUInt32 &&& Int32.toUInt32 31)).toInt32 = nI (n / 2 ^ k) := by
  apply Int32.toBitVec_inj.mp
  apply BitVec.eq_of_toNat_eq
  rw [pk_ushr _ s k hs, pk_tn hn, pk_tn (Nat.lt_of_le_of_lt (Nat.div_le_self _ _) hn)]
theorem pk_lT {n : Nat} (h : n < 2 ^ 63) : (lN n).toInt = (n : Int) := lg_ofNat_toInt h
theorem pk_lLT {a b : Nat} (ha : a < 2 ^ 63) (hb : b < 2 ^ 63) : lN a < lN b ↔ a < b := by
  rw [Int64.lt_iff_toInt_lt, pk_lT ha, pk_lT hb]; omega
theorem pk_lLE {a b : Nat} (ha : a < 2 ^ 63) (hb : b < 2 ^ 63) : lN a ≤ lN b ↔ a ≤ b := by
  rw [Int64.le_iff_toInt_le, pk_lT ha, pk_lT hb]; omega
theorem pk_lEQ {a b : Nat} (ha : a < 2 ^ 63) (hb : b < 2 ^ 63) : lN a = lN b ↔ a = b := by
  rw [← Int64.toInt_inj, pk_lT ha, pk_lT hb]; omega
theorem pk_least (P : Nat → Prop) (h : ∃ k, P k) : ∃ k, P k ∧ ∀ j, j < k → ¬ P j := by
  obtain ⟨k, hk⟩ := h
  induction k using Nat.strongRecOn with
  | ind k ih =>
    by_cases e : ∃ j, j < k ∧ P j
    · obtain ⟨j, hj, pj⟩ := e
      exact ih j hj pj
    · exact ⟨k, hk, fun j hj pj => e ⟨j, hj, pj⟩⟩
def bt (x : Int32) (i : Nat) : Bool := x.toBitVec.getLsbD i
theorem b_ext {x y : Int32} (h : ∀ i, i < 32 → bt x i = bt y i) : x = y := Int32.toBitVec_inj.mp (BitVec.eq_of_getLsbD_eq (fun i hi => h i hi))
theorem b_or (x y : Int32) (i : Nat) : bt (x ||| y) i = (bt x i || bt y i) := by unfold bt; rw [Int32.toBitVec_or, BitVec.getLsbD_or]
theorem b_and (x y : Int32) (i : Nat) : bt (x &&& y) i = (bt x i && bt y i) := by unfold bt; rw [Int32.toBitVec_and, BitVec.getLsbD_and]
theorem b_xor (x y : Int32) (i : Nat) : bt (x ^^^ y) i = (bt x i ^^ bt y i) := by unfold bt; rw [Int32.toBitVec_xor, BitVec.getLsbD_xor]
theorem b_big {x : Int32} {i : Nat} (h : 32 ≤ i) : bt x i = false := BitVec.getLsbD_of_ge _ _ h
theorem b_255 (i : Nat) : bt 255 i = decide (i < 8) := by
  rcases Nat.lt_or_ge i 32 with h | h
  · exact (by decide +kernel : ∀ i, i < 32 → bt 255 i = decide (i < 8)) i h
  · rw [b_big h, decide_eq_false (by omega)]
theorem b_65535 (i : Nat) : bt 65535 i = decide (i < 16) := by
  rcases Nat.lt_or_ge i 32 with h | h
  · exact (by decide +kernel : ∀ i, i < 32 → bt 65535 i = decide (i < 16)) i h
  · rw [b_big h, decide_eq_false (by omega)]
theorem b_m1 : ∀ i, i < 32 → bt (-1) i = true := by decide +kernel
theorem b_0 (i : Nat) : bt 0 i = false := BitVec.getLsbD_zero
theorem s_l : ∀ n, n < 32 → ((nI n &&& 31).toBitVec.smod 32).toNat = n := by decide +kernel
theorem s_u : ∀ n, n < 32 → (((nI n).toUInt32 &&& Int32.toUInt32 31).toBitVec % 32).toNat = n := by decide +kernel
theorem b_shl (n : Nat) (hn : n < 32) (x : Int32) {i : Nat} (hi : i < 32) : bt (x <<< (nI n &&& 31)) i = (decide (n ≤ i) && bt x (i - n)) := by
  unfold bt
  rw [Int32.toBitVec_shiftLeft]
  show (x.toBitVec <<< ((nI n &&& 31).toBitVec.smod 32).toNat).getLsbD i = _
  rw [s_l n hn, BitVec.getLsbD_shiftLeft]
  rcases Nat.lt_or_ge i n with h | h
  · simp [h, Nat.not_le.mpr h]
  · simp [hi, h, Nat.not_lt.mpr h]
theorem b_ushr (n : Nat) (hn : n < 32) (x : Int32) (i : Nat) : bt ((x.toUInt32 >>> ((nI n).toUInt32 &&& Int32.toUInt32 31)).toInt32) i = bt x (n + i) := by
  show (x.toUInt32 >>> ((nI n).toUInt32 &&& Int32.toUInt32 31)).toBitVec.getLsbD i = x.toUInt32.toBitVec.getLsbD (n + i)
  rw [UInt32.toBitVec_shiftRight]
  show (x.toUInt32.toBitVec >>> (((nI n).toUInt32 &&& Int32.toUInt32 31).toBitVec % 32).toNat).getLsbD i = _
  rw [s_u n hn, BitVec.getLsbD_ushiftRight]
theorem b_sshr (n : Nat) (hn : n < 32) (x : Int32) {i : Nat} (hi : i < 32) : bt (x >>> (nI n &&& 31)) i = if n + i < 32 then bt x (n + i) else bt x 31 := by
  unfold bt
  rw [Int32.toBitVec_shiftRight]
  show (x.toBitVec.sshiftRight ((nI n &&& 31).toBitVec.smod 32).toNat).getLsbD i = _
  rw [s_l n hn, BitVec.getLsbD_sshiftRight, BitVec.msb_eq_getLsbD_last]
  simp [hi]
theorem ts_nf {x : Bool} (h : ¬ x = false) : x = true := by cases x <;> first | rfl | exact absurd rfl h
theorem ts_nt {x : Bool} (h : ¬ x = true) : x = false := by cases x <;> first | rfl | exact absurd rfl h
theorem wb_tb (n : Nat) : (lN n).toBitVec = BitVec.ofNat 64 n := rfl
theorem wb_inj {a b : Int64} (h : a.toBitVec = b.toBitVec) : a = b := Int64.toBitVec_inj.mp h
theorem wb_tn {n : Nat} (h : n < 2 ^ 64) : (lN n).toBitVec.toNat = n := by rw [wb_tb, BitVec.toNat_ofNat, Nat.mod_eq_of_lt h]
theorem wb_of (x : Int64) : ∃ n, n < 2 ^ 64 ∧ x = lN n := ⟨x.toBitVec.toNat, x.toBitVec.isLt, wb_inj (by rw [wb_tb]; simp)⟩
theorem wb_of32 (x : Int32) : ∃ n, n < 2 ^ 32 ∧ x = nI n := ⟨x.toBitVec.toNat, x.toBitVec.isLt, Int32.toBitVec_inj.mp (by show _ = BitVec.ofNat 32 _; simp)⟩
theorem wb_c : ∀ k, k < 64 → ((nI k).toInt64 &&& 63) = lN k := by decide +kernel
theorem wb_cu : ∀ k, k < 64 → ((nI k).toInt64.toUInt64 &&& Int64.toUInt64 63) = UInt64.ofNat k := by decide +kernel
theorem wb_sm : ∀ k, k < 64 → (BitVec.ofNat 64 k).smod 64 = BitVec.ofNat 64 k := by decide +kernel
theorem wb_pw {a b : Nat} (h : a ≤ b) : 2 ^ b = 2 ^ a * 2 ^ (b - a) := by rw [← Nat.pow_add]; congr 1; omega
theorem wb_lt2 {a b : Nat} (h : a < b) : 2 ^ a < 2 ^ b := Nat.pow_lt_pow_right (by decide) h
theorem wb_mod (n : Nat) : lN n = lN (n % 2 ^ 64) := wb_inj (by rw [wb_tb, wb_tb]; apply BitVec.eq_of_toNat_eq; rw [BitVec.toNat_ofNat, BitVec.toNat_ofNat, Nat.mod_mod])
theorem wb_shr {n k : Nat} (hn : n < 2 ^ 64) (hk : k < 64) : ((lN n).toUInt64 >>> ((nI k).toInt64.toUInt64 &&& Int64.toUInt64 63)).toInt64 = lN (n / 2 ^ k) := by
  rw [wb_cu k hk]
  apply wb_inj
  apply BitVec.eq_of_toNat_eq
  show ((lN n).toUInt64 >>> UInt64.ofNat k).toNat = (BitVec.ofNat 64 _).toNat
  have h1 : (UInt64.ofNat k).toNat = k := by
    show (BitVec.ofNat 64 k).toNat = k
    rw [BitVec.toNat_ofNat, Nat.mod_eq_of_lt (by omega)]
  have h2 : (lN n).toUInt64.toNat = n := wb_tn hn
  rw [UInt64.toNat_shiftRight, h1, h2, Nat.mod_eq_of_lt hk, Nat.shiftRight_eq_div_pow, BitVec.toNat_ofNat, Nat.mod_eq_of_lt (Nat.lt_of_le_of_lt (Nat.div_le_self _ _) hn)]
theorem wb_shl (n : Nat) {k : Nat} (hk : k < 64) : lN n <<< ((nI k).toInt64 &&& 63) = lN (n * 2 ^ k) := by
  rw [wb_c k hk]
  apply wb_inj
  rw [Int64.toBitVec_shiftLeft, wb_tb, wb_tb, wb_tb, wb_sm k hk]
  apply BitVec.eq_of_toNat_eq
  rw [BitVec.shiftLeft_eq', BitVec.toNat_shiftLeft, BitVec.toNat_ofNat, BitVec.toNat_ofNat, BitVec.toNat_ofNat, Nat.mod_eq_of_lt (show k < 2 ^ 64 by omega), Nat.shiftLeft_eq, Nat.mul_mod, Nat.mod_mod, ← Nat.mul_mod]
theorem wb_and {a b : Nat} (ha : a < 2 ^ 64) (hb : b < 2 ^ 64) : lN a &&& lN b = lN (a &&& b) := by
  apply wb_inj
  rw [Int64.toBitVec_and, wb_tb, wb_tb, wb_tb]
  apply BitVec.eq_of_toNat_eq
  rw [BitVec.toNat_and, BitVec.toNat_ofNat, BitVec.toNat_ofNat, BitVec.toNat_ofNat, Nat.mod_eq_of_lt ha, Nat.mod_eq_of_lt hb, Nat.mod_eq_of_lt (Nat.and_lt_two_pow _ hb)]
theorem wb_or {a b : Nat} (ha : a < 2 ^ 64) (hb : b < 2 ^ 64) : lN a ||| lN b = lN (a ||| b) := by
  apply wb_inj
  rw [Int64.toBitVec_or, wb_tb, wb_tb, wb_tb]
  apply BitVec.eq_of_toNat_eq
  rw [BitVec.toNat_or, BitVec.toNat_ofNat, BitVec.toNat_ofNat, BitVec.toNat_ofNat, Nat.mod_eq_of_lt ha, Nat.mod_eq_of_lt hb, Nat.mod_eq_of_lt (Nat.or_lt_two_pow ha hb)]
theorem wb_mask {n k : Nat} (hn : n < 2 ^ 64) (hk : k < 64) : lN n &&& lN (2 ^ k - 1) = lN (n % 2 ^ k) := by
  rw [wb_and hn (by have := wb_lt2 hk; omega), Nat.and_two_pow_sub_one_eq_mod]
theorem wb_a1 {n : Nat} (hn : n < 2 ^ 64) : lN n &&& 1 = lN (n % 2) := wb_mask (k := 1) hn (by decide)
theorem wb_bit {n k : Nat} (hn : n < 2 ^ 64) (hk : k < 64) : ((lN n).toUInt64 >>> ((nI k).toInt64.toUInt64 &&& Int64.toUInt64 63)).toInt64 &&& 1 = lN (n / 2 ^ k % 2) := by
  rw [wb_shr hn hk, wb_a1 (Nat.lt_of_le_of_lt (Nat.div_le_self _ _) hn)]
end
section
/-! bits of longs and ints as functions; counts -/
def fd_bl (x : Int64) (i : Nat) : Bool := x.toBitVec.getLsbD i
theorem fd_blo (x y : Int64) (i : Nat) : fd_bl (x ||| y) i = (fd_bl x i || fd_bl y i) := by unfold fd_bl; rw [Int64.toBitVec_or, BitVec.getLsbD_or]
theorem fd_bla (x y : Int64) (i : Nat) : fd_bl (x &&& y) i = (fd_bl x i && fd_bl y i) := by unfold fd_bl; rw [Int64.toBitVec_and, BitVec.getLsbD_and]
theorem fd_blx (x y : Int64) (i : Nat) : fd_bl (x ^^^ y) i = (fd_bl x i ^^ fd_bl y i) := by unfold fd_bl; rw [Int64.toBitVec_xor, BitVec.getLsbD_xor]
theorem fd_bl0 (i : Nat) : fd_bl 0 i = false := BitVec.getLsbD_zero
theorem fd_blG {x : Int64} {i : Nat} (h : 64 ≤ i) : fd_bl x i = false := BitVec.getLsbD_of_ge _ _ h
theorem fd_bm1 : ∀ i, i < 64 → fd_bl (-1) i = true := by decide +kernel
theorem fd_blN (n i : Nat) (h : n < 2 ^ 64) : fd_bl (lN n) i = n.testBit i := by
  unfold fd_bl
  rw [wb_tb, BitVec.getLsbD_ofNat]
  rcases Nat.lt_or_ge i 64 with z | z
  · simp [z]
  · rw [Nat.testBit_lt_two_pow (Nat.lt_of_lt_of_le h (Nat.pow_le_pow_right (by decide) z))]
    simp
theorem fd_tb2 (d i : Nat) : (2 ^ d).testBit i = decide (d = i) := Nat.testBit_two_pow
theorem fd_blb (d : Nat) (hd : d < 64) (i : Nat) : fd_bl ((1 : Int64) <<< ((nI d).toInt64 &&& 63)) i = decide (i = d) := by
  have e : (1 : Int64) <<< ((nI d).toInt64 &&& 63) = lN (2 ^ d) := by
    have := wb_shl 1 hd
    rw [Nat.one_mul] at this
    exact this
  rw [e, fd_blN _ _ (Nat.pow_lt_pow_right (by decide) hd), fd_tb2]
  by_cases h : d = i
  · subst h; simp
  · simp [h, Ne.symm h]
theorem fd_bln (x : Int64) (d : Nat) (hd : d < 64) (i : Nat) : fd_bl (x &&& (((1 : Int64) <<< ((nI d).toInt64 &&& 63)) ^^^ (-1))) i = (fd_bl x i && !decide (i = d)) := by
  rw [fd_bla, fd_blx, fd_blb d hd]
  rcases Nat.lt_or_ge i 64 with z | z
  · rw [fd_bm1 i z]; simp
  · rw [fd_blG z]; simp
theorem fd_bls (x : Int64) (d : Nat) (hd : d < 64) (i : Nat) : fd_bl (x ||| ((1 : Int64) <<< ((nI d).toInt64 &&& 63))) i = (fd_bl x i || decide (i = d)) := by
  rw [fd_blo, fd_blb d hd]
theorem fd_bnt (x y : Int64) (i : Nat) : fd_bl (x &&& (y ^^^ (-1))) i = (fd_bl x i && !fd_bl y i) := by
  rw [fd_bla, fd_blx]
  rcases Nat.lt_or_ge i 64 with z | z
  · rw [fd_bm1 i z]; simp
  · rw [fd_blG (x := x) z]; simp
theorem fd_bin (x : Int64) (d : Nat) (hd : d < 64) : (((x.toUInt64 >>> ((nI d).toInt64.toUInt64 &&& Int64.toUInt64 63)).toInt64) &&& 1) = 1 ↔ fd_bl x d = true := by
  obtain ⟨n, hn, rfl⟩ := wb_of x
  rw [wb_bit hn hd, fd_blN _ _ hn, Nat.testBit_eq_decide_div_mod_eq, decide_eq_true_iff]
  exact lN_eq (b := 1) (by omega) (by decide)
theorem fd_a1 (y : Int32) : (y &&& 1) = 1 ↔ bt y 0 = true := by
  constructor
  · intro h
    have e : bt (y &&& 1) 0 = bt 1 0 := by rw [h]
    rw [b_and, show bt 1 0 = true from by decide] at e
    simpa using e
  · intro h
    apply b_ext
    intro i hi
    rw [b_and]
    by_cases z : i = 0
    · subst z; rw [h]; rfl
    · rw [show bt 1 i = false from by
        have : ∀ i, i < 32 → i ≠ 0 → bt 1 i = false := by decide +kernel
        exact this i hi z]
      simp
theorem fd_bi (x : Int32) (g : Nat) (hg : g < 32) : ((x >>> (nI g &&& 31)) &&& 1) = 1 ↔ bt x g = true := by
  rw [fd_a1, b_sshr g hg x (by omega), if_pos (by omega), Nat.add_zero]
theorem fd_btN (n i : Nat) (h : n < 2 ^ 32) : bt (nI n) i = n.testBit i := by
  show (BitVec.ofNat 32 n).getLsbD i = _
  rw [BitVec.getLsbD_ofNat]
  rcases Nat.lt_or_ge i 32 with z | z
  · simp [z]
  · rw [Nat.testBit_lt_two_pow (Nat.lt_of_lt_of_le h (Nat.pow_le_pow_right (by decide) z))]
    simp
/-! counts -/
def fd_cnt (P : Nat → Bool) : Nat → Nat
  | 0 => 0
  | n + 1 => fd_cnt P n + (if P n = true then 1 else 0)
theorem fd_cnt_le (P : Nat → Bool) (n : Nat) : fd_cnt P n ≤ n := by
  induction n with
  | zero => exact Nat.le_refl _
  | succ n ih => show fd_cnt P n + (if P n = true then 1 else 0) ≤ _; split <;> omega
theorem fd_cnt_t {P : Nat → Bool} {n : Nat} (h : P n = true) : fd_cnt P (n + 1) = fd_cnt P n + 1 := by
  show fd_cnt P n + (if P n = true then 1 else 0) = _; rw [if_pos h]
theorem fd_cnt_f {P : Nat → Bool} {n : Nat} (h : P n = false) : fd_cnt P (n + 1) = fd_cnt P n := by
  show fd_cnt P n + (if P n = true then 1 else 0) = _; rw [if_neg (by rw [h]; decide), Nat.add_zero]
theorem fd_cnt_c {P Q : Nat → Bool} {n : Nat} (h : ∀ i, i < n → P i = Q i) : fd_cnt P n = fd_cnt Q n := by
  induction n with
  | zero => rfl
  | succ n ih =>
    show fd_cnt P n + _ = fd_cnt Q n + _
    rw [ih (fun i hi => h i (by omega)), h n (by omega)]
theorem fd_cnt_0 {P : Nat → Bool} {n : Nat} (h : ∀ i, i < n → P i = false) : fd_cnt P n = 0 := by
  induction n with
  | zero => rfl
  | succ n ih => rw [fd_cnt_f (h n (by omega)), ih (fun i hi => h i (by omega))]
/-- one more -/
theorem fd_cnt_1 {P Q : Nat → Bool} {k : Nat} (hP : P k = true) (hQ : Q k = false) : ∀ n, k < n → (∀ i, i < n → i ≠ k → P i = Q i) → fd_cnt P n = fd_cnt Q n + 1 := by
  intro n
  induction n with
  | zero => intro h; omega
  | succ n ih =>
    intro hk h
    by_cases z : n = k
    · subst z
      rw [fd_cnt_t hP, fd_cnt_f hQ, fd_cnt_c (fun i hi => h i (by omega) (by omega))]
    · have e := ih (by omega) (fun i hi hn => h i (by omega) hn)
      show fd_cnt P n + _ = fd_cnt Q n + _ + 1
      rw [h n (by omega) z, e]
      omega
/-- not all: one is left out -/
theorem fd_cnt_x {P : Nat → Bool} : ∀ n, fd_cnt P n < n → ∃ i, i < n ∧ P i = false := by
  intro n
  induction n with
  | zero => intro h; exact absurd h (Nat.not_lt_zero _)
  | succ n ih =>
    intro h
    cases hp : P n with
    | false => exact ⟨n, by omega, hp⟩
    | true =>
      rw [fd_cnt_t hp] at h
      obtain ⟨i, hi, e⟩ := ih (by omega)
      exact ⟨i, by omega, e⟩
theorem fd_cnt_all {P : Nat → Bool} : ∀ n, (∀ i, i < n → P i = true) → fd_cnt P n = n := by
  intro n
  induction n with
  | zero => intro _; rfl
  | succ n ih => intro h; rw [fd_cnt_t (h n (by omega)), ih (fun i hi => h i (by omega))]
/-- the lowest one goes -/
theorem fd_low : ∀ n : Nat, 0 < n → ∃ k, n.testBit k = true ∧ ∀ j, (n &&& (n - 1)).testBit j = (n.testBit j && !decide (j = k)) := by
  intro n
  induction n using Nat.strongRecOn with
  | ind n ih =>
    intro h0
    rcases Nat.mod_two_eq_zero_or_one n with z | z
    · obtain ⟨k, hk, h⟩ := ih (n / 2) (by omega) (by omega)
      refine ⟨k + 1, by rw [Nat.testBit_succ]; exact hk, ?_⟩
      intro j
      rw [Nat.testBit_and]
      cases j with
      | zero => rw [Nat.testBit_zero]; simp [z]
      | succ j =>
        rw [Nat.testBit_succ, Nat.testBit_succ, show (n - 1) / 2 = n / 2 - 1 by omega, ← Nat.testBit_and, h j]
        simp
    · refine ⟨0, by rw [Nat.testBit_zero]; simp [z], ?_⟩
      intro j
      rw [Nat.testBit_and]
      cases j with
      | zero => rw [Nat.testBit_zero (x := n - 1), show (n - 1) % 2 = 0 by omega]; simp
      | succ j => rw [Nat.testBit_succ, Nat.testBit_succ, show (n - 1) / 2 = n / 2 by omega]; simp
theorem fd_lowL (x : Int64) (h : ¬ x = 0) : ∃ k, fd_bl x k = true ∧ ∀ j, fd_bl (x &&& (x - 1)) j = (fd_bl x j && !decide (j = k)) := by
  obtain ⟨n, hn, rfl⟩ := wb_of x
  have h0 : 0 < n := by
    rcases Nat.eq_zero_or_pos n with z | z
    · subst z; exact absurd rfl h
    · exact z
  obtain ⟨k, hk, hj⟩ := fd_low n h0
  refine ⟨k, by rw [fd_blN _ _ hn]; exact hk, ?_⟩
  intro j
  have e : lN n - 1 = lN (n - 1) := lN_sub (a := n) (b := 1) h0
  rw [e, wb_and hn (by omega), fd_blN _ _ (Nat.lt_of_le_of_lt Nat.and_le_left hn), fd_blN _ _ hn]
  exact hj j
/-! any and all of the first n -/
def fd_any (P : Nat → Bool) : Nat → Bool
  | 0 => false
  | n + 1 => fd_any P n || P n
def fd_all (P : Nat → Bool) : Nat → Bool
  | 0 => true
  | n + 1 => fd_all P n && P n
theorem fd_any_i {P : Nat → Bool} : ∀ n, fd_any P n = true ↔ ∃ i, i < n ∧ P i = true := by
  intro n
  induction n with
  | zero => exact ⟨(fun h => nomatch h), fun ⟨i, hi, _⟩ => absurd hi (Nat.not_lt_zero i)⟩
  | succ n ih =>
    show (fd_any P n || P n) = true ↔ _
    rw [Bool.or_eq_true, ih]
    constructor
    · rintro (⟨i, hi, e⟩ | e)
      · exact ⟨i, by omega, e⟩
      · exact ⟨n, by omega, e⟩
    · rintro ⟨i, hi, e⟩
      by_cases z : i = n
      · subst z; exact Or.inr e
      · exact Or.inl ⟨i, by omega, e⟩
theorem fd_all_i {P : Nat → Bool} : ∀ n, fd_all P n = true ↔ ∀ i, i < n → P i = true := by
  intro n
  induction n with
  | zero => exact ⟨fun _ i hi => absurd hi (Nat.not_lt_zero i), fun _ => rfl⟩
  | succ n ih =>
    show (fd_all P n && P n) = true ↔ _
    rw [Bool.and_eq_true, ih]
    constructor
    · rintro ⟨h, e⟩ i hi
      by_cases z : i = n
      · subst z; exact e
      · exact h i (by omega)
    · intro h
      exact ⟨fun i hi => h i (by omega), h n (by omega)⟩
theorem fd_beq {a b : Bool} (h : a = true ↔ b = true) : a = b := by
  cases a <;> cases b <;> simp_all
def fd_b2i (b : Bool) : Int32 := if b = true then 1 else 0
theorem fd_b2i0 (b : Bool) : fd_b2i b = 0 ↔ b = false := by cases b <;> decide
/-- a branch over a 0 or 1 -/
theorem fd_br {A B : Prop} (b : Bool) (f : b = false → A) (g : b = true → B) : (fd_b2i b = 0 → A) ∧ (¬ fd_b2i b = 0 → B) := by
  cases b
  · exact br_t rfl (f rfl)
  · exact br_f (by decide) (g rfl)
theorem fd_brc {c A B : Prop} {b : Bool} (e : c ↔ b = true) (f : b = true → A) (g : b = false → B) : (c → A) ∧ (¬ c → B) := by
  cases b
  · exact br_f (fun z => absurd (e.mp z) (by decide)) (g rfl)
  · exact br_t (e.mpr rfl) (f rfl)
theorem fd_narb (b : Bool) : narrow .boolean (.int (fd_b2i b)) = .int (fd_b2i b) := by cases b <;> rfl
theorem fd_nar1 : vp_nar .boolean 1 = 1 := by rfl
theorem fd_nar0 : vp_nar .boolean 0 = 0 := by rfl
end
section
/-! the picture of both states -/
def fd_fb (f b : Nat) : Prop := (f = 4 ∧ b = 0) ∨ (f = 5 ∧ b = 48)
/-- what orders the documents of a number field: the number, then the document -/
def fd_key (va : Nat → Int32) (f e : Nat) : Int := 64 * (va (6 * e + f)).toInt + (e : Int)
def fd_vh (f : Nat) (v : Int32) (t : Nat) : Bool := if f = 3 then bt v t else decide (v = nI t)
def fd_hs (va : Nat → Int32) (f t e : Nat) : Bool := fd_vh f (va (6 * e + f)) t
def fd_lim (f : Nat) : Nat := if f = 3 then 8 else 10
def fd_hold (wt wg : Nat → Int64) (f t : Nat) : Int64 := if f = 3 then wg t else wt (10 * f + t)
def fd_Grp (f : Nat) (T : Nat → Bool) (va : Nat → Int32) (wt wg : Nat → Int64) : Prop :=
  ∀ t, t < fd_lim f → ∀ e, fd_bl (fd_hold wt wg f t) e = (T e && fd_hs va f t e)
def fd_Ord (f b : Nat) (T : Nat → Bool) (od : Nat → Int32) (mn : Nat) (va : Nat → Int32) : Prop :=
  mn ≤ 48 ∧ ∃ o : Nat → Nat, (∀ i, i < mn → od (b + i) = nI (o i) ∧ o i < 48) ∧
    (∀ i j, i < j → j < mn → fd_key va f (o i) < fd_key va f (o j)) ∧ (∀ d, T d = true ↔ ∃ i, i < mn ∧ o i = d)
def fd_Fit (f : Nat) (x : Int32) : Prop :=
  (f < 3 → ∃ t, t < 10 ∧ x = nI t) ∧ (f = 3 → ∃ t, t < 256 ∧ x = nI t) ∧ (4 ≤ f → -999 ≤ x.toInt ∧ x.toInt ≤ 999)
def fd_VR (va : Nat → Int32) : Prop := ∀ e, e < 48 → ∀ f, f < 6 → fd_Fit f (va (6 * e + f))
/-- whether a document passes the filter of a field -/
def fd_ps (fl fi se va : Nat → Int32) (f e : Nat) : Bool :=
  if fl f = 0 then true
  else if 3 < f then decide (fi f ≤ va (6 * e + f)) && decide (va (6 * e + f) ≤ se f)
  else if f < 3 then decide (((fi f >>> (va (6 * e + f) &&& 31)) &&& 1) = 1)
  else if se 3 = 0 then !decide (va (6 * e + 3) &&& fi 3 = 0)
  else if se 3 = 1 then decide (va (6 * e + 3) &&& fi 3 = fi 3)
  else decide (va (6 * e + 3) &&& fi 3 = 0)
/-- who passes all filters but one -/
def fd_M (T : Nat → Bool) (fl fi se va : Nat → Int32) (but : Int32) (e : Nat) : Bool :=
  T e && fd_all (fun f => decide (nI f = but) || fd_ps fl fi se va f e) 6
def fd_Cor (th : Int64) (mn : Nat) (wt wg : Nat → Int64) (va od : Nat → Int32) : Prop :=
  (∀ e, 48 ≤ e → fd_bl th e = false) ∧ mn = fd_cnt (fd_bl th) 48 ∧ (∀ f, f < 4 → fd_Grp f (fd_bl th) va wt wg) ∧
  fd_Ord 4 0 (fd_bl th) od mn va ∧ fd_Ord 5 48 (fd_bl th) od mn va ∧ fd_VR va
def fd_Pas (th : Int64) (va fl fi se : Nat → Int32) (pa : Nat → Int64) (f : Nat) : Prop :=
  ∀ e, fd_bl (pa f) e = (fd_bl th e && fd_ps fl fi se va f e)
def fd_F3 (fi : Nat → Int32) : Prop := ∃ t, t < 256 ∧ fi 3 = nI t
/-- what the reference keeps beside -/
def fd_YR (T : Nat → Bool) (mo : Int32) (ath hi se : Nat → Int32) : Prop :=
  (∀ d, d < 48 → ath d = fd_b2i (T d)) ∧ mo = se 3 ∧ hi 4 = se 4 ∧ hi 5 = se 5
theorem fd_fb6 {f b : Nat} (h : fd_fb f b) : f < 6 := by unfold fd_fb at h; omega
theorem fd_base {f b : Nat} (h : fd_fb f b) : 48 * (nI f - 4) = nI b := by
  rcases h with ⟨rfl, rfl⟩ | ⟨rfl, rfl⟩ <;> decide
theorem fd_n6 (d f : Nat) : (6 * nI d) + nI f = nI (6 * d + f) := by
  rw [show (6 : Int32) = nI 6 from rfl, pk_mul, nI_add]
theorem fd_in6 {d f : Nat} (hd : d < 48) (hf : f < 6) : vp_in ((6 * nI d) + nI f) 288 := by
  rw [fd_n6]; exact vp_in_nI (by omega) (by decide)
theorem fd_cl6 {d f : Nat} (hd : d < 48) (hf : f < 6) : ((6 * nI d) + nI f).toNatClampNeg = 6 * d + f := by
  rw [fd_n6]; exact nI_clamp (by omega)
theorem fd_n10 (d f : Nat) : (10 * nI d) + nI f = nI (10 * d + f) := by
  rw [show (10 : Int32) = nI 10 from rfl, pk_mul, nI_add]
theorem fd_in10 {f t : Nat} (hf : f < 3) (ht : t < 10) : vp_in ((10 * nI f) + nI t) 30 := by
  rw [fd_n10]; exact vp_in_nI (by omega) (by decide)
theorem fd_cl10 {f t : Nat} (hf : f < 3) (ht : t < 10) : ((10 * nI f) + nI t).toNatClampNeg = 10 * f + t := by
  rw [fd_n10]; exact nI_clamp (by omega)
theorem fd_inA {b i : Nat} (h : b + i < 96) : vp_in (nI b + nI i) 96 := by
  rw [nI_add]; exact vp_in_nI h (by decide)
theorem fd_clA {b i : Nat} (h : b + i < 96) : (nI b + nI i).toNatClampNeg = b + i := by
  rw [nI_add]; exact nI_clamp (by omega)
/-- where a sorted row passes a bound -/
theorem fd_split (g : Nat → Int) (q : Int) : ∀ n, (∀ i j, i < j → j < n → g i < g j) → ∃ p, p ≤ n ∧ (∀ i, i < p → g i < q) ∧ (∀ i, p ≤ i → i < n → q ≤ g i) := by
  intro n
  induction n with
  | zero => intro _; exact ⟨0, Nat.le_refl _, fun i hi => absurd hi (Nat.not_lt_zero i), fun i _ hi => absurd hi (Nat.not_lt_zero i)⟩
  | succ n ih =>
    intro hm
    obtain ⟨p, hp, hl, hr⟩ := ih (fun i j h1 h2 => hm i j h1 (by omega))
    by_cases z : p < n
    · refine ⟨p, by omega, hl, ?_⟩
      intro i h1 h2
      by_cases z2 : i = n
      · subst z2
        have a := hr p (Nat.le_refl _) z
        have c := hm p i z (by omega)
        omega
      · exact hr i h1 (by omega)
    · by_cases z2 : g n < q
      · refine ⟨n + 1, Nat.le_refl _, ?_, fun i h1 h2 => absurd h2 (by omega)⟩
        intro i hi
        by_cases z3 : i = n
        · subst z3; exact z2
        · exact hl i (by omega)
      · refine ⟨n, by omega, fun i hi => hl i (by omega), ?_⟩
        intro i h1 h2
        have : i = n := by omega
        subst this
        omega
/-! small methods of the component -/
theorem fx_in {post : Int32 → Prop} (s : Int64) (d : Nat) (hd : d < 64) (h : post (fd_b2i (fd_bl s d))) : wpX_in post s (nI d) := by
  unfold wpX_in
  refine fd_brc (fd_bin s d hd) (fun e => ?_) (fun e => ?_)
  · rw [e] at h; exact h
  · rw [e] at h; exact h
theorem fx_ones_7 {post : Int32 → Prop} : ∀ n i c x, i + fd_cnt (fd_bl x) 48 ≤ 48 → (∀ j, 48 ≤ j → fd_bl x j = false) → 49 ≤ n + i → post (nI (c + fd_cnt (fd_bl x) 48)) → wX_ones_7 post n (nI c) x (nI i) := by
  intro n
  induction n with
  | zero => intro i c x h1 _ h3; omega
  | succ n ih =>
    intro i c x h1 h2 h3 hp
    refine pk_le 48 i (fun z => ?_) (fun z => ?_)
    · have e : fd_cnt (fd_bl x) 48 = 0 := by omega
      rw [e, Nat.add_zero] at hp
      exact hp
    · by_cases z0 : x = 0
      · refine br_t z0 ?_
        have e : fd_cnt (fd_bl x) 48 = 0 := fd_cnt_0 (fun i _ => by rw [z0]; exact fd_bl0 i)
        rw [e, Nat.add_zero] at hp
        exact hp
      · refine br_f z0 (nm_e (nm_r (nI_1 c) (nm_r (nI_1 i) ?_)))
        obtain ⟨k, hk, hj⟩ := fd_lowL x z0
        have k48 : k < 48 := by
          rcases Nat.lt_or_ge k 48 with y | y
          · exact y
          · rw [h2 k y] at hk; exact absurd hk (by decide)
        have e : fd_cnt (fd_bl x) 48 = fd_cnt (fd_bl (x &&& (x - 1))) 48 + 1 := by
          refine fd_cnt_1 (k := k) hk (by rw [hj]; simp) 48 k48 ?_
          intro j _ hn
          rw [hj]; simp [hn]
        refine ih (i + 1) (c + 1) _ (by omega) ?_ (by omega) ?_
        · intro j h48
          rw [hj, h2 j h48]; rfl
        · rw [e] at hp
          rw [show c + 1 + fd_cnt (fd_bl (x &&& (x - 1))) 48 = c + (fd_cnt (fd_bl (x &&& (x - 1))) 48 + 1) by omega]
          exact hp
theorem fx_ones {post : Int32 → Prop} {x : Int64} {Q : Nat → Bool} (hQ : ∀ e, fd_bl x e = Q e) (h2 : ∀ j, 48 ≤ j → Q j = false) (h : post (nI (fd_cnt Q 48))) : wpX_ones post x := by
  have e : fd_cnt (fd_bl x) 48 = fd_cnt Q 48 := fd_cnt_c (fun i _ => hQ i)
  refine ⟨49, fx_ones_7 49 0 0 x (by have := fd_cnt_le (fd_bl x) 48; omega) (fun j hj => by rw [hQ]; exact h2 j hj) (by omega) ?_⟩
  rw [e, Nat.zero_add]
  exact h
theorem fx_isField {post : Int32 → Prop} {f : Nat} (hf : f < 6) (h : post 1) : wpX_isField post (nI f) :=
  br_f (nI_pos (by omega)) (br_f (nI_ge (b := 6) hf (by decide)) h)
theorem fx_isField0 {post : Int32 → Prop} {x : Int32} (hf : x < 0 ∨ nI 6 ≤ x) (h : post 0) : wpX_isField post x := by
  by_cases z : x < 0
  · exact br_t z h
  · exact br_f z (br_t (hf.resolve_left z) h)
theorem fx_isGroup {post : Int32 → Prop} {f : Nat} (hf : f < 4) (h : post 1) : wpX_isGroup post (nI f) :=
  br_f (nI_pos (by omega)) (br_f (nI_nlt (a := 3) (by omega) (by decide)) h)
theorem fx_isGroup0 {post : Int32 → Prop} {x : Int32} (hf : x < 0 ∨ nI 4 ≤ x) (h : post 0) : wpX_isGroup post x := by
  by_cases z : x < 0
  · exact br_t z h
  · refine br_f z (br_t ?_ h)
    have := hf.resolve_left z
    rw [Int32.le_iff_toInt_le, show (nI 4).toInt = 4 from by decide] at this
    rw [Int32.lt_iff_toInt_lt, show (3 : Int32).toInt = 3 from by decide]
    omega
theorem fx_isTermField {post : Int32 → Prop} {f : Nat} (hf : f < 3) (h : post 1) : wpX_isTermField post (nI f) :=
  br_f (nI_pos (by omega)) (br_f (nI_ge (b := 3) hf (by decide)) h)
theorem fx_isTermField0 {post : Int32 → Prop} {x : Int32} (hf : x < 0 ∨ nI 3 ≤ x) (h : post 0) : wpX_isTermField post x := by
  by_cases z : x < 0
  · exact br_t z h
  · exact br_f z (br_t (hf.resolve_left z) h)
theorem fx_isTerm {post : Int32 → Prop} {f : Nat} (hf : f < 10) (h : post 1) : wpX_isTerm post (nI f) :=
  br_f (nI_pos (by omega)) (br_f (nI_ge (b := 10) hf (by decide)) h)
theorem fx_isTerm0 {post : Int32 → Prop} {x : Int32} (hf : x < 0 ∨ nI 10 ≤ x) (h : post 0) : wpX_isTerm post x := by
  by_cases z : x < 0
  · exact br_t z h
  · exact br_f z (br_t (hf.resolve_left z) h)
theorem fx_isNum {post : Int32 → Prop} {f b : Nat} (hf : fd_fb f b) (h : post 1) : wpX_isNumberField post (nI f) := by
  rcases hf with ⟨rfl, _⟩ | ⟨rfl, _⟩
  · exact br_t (by decide) h
  · exact br_f (by decide) (br_t (by decide) h)
theorem fx_isNum0 {post : Int32 → Prop} {x : Int32} (h4 : ¬ x = 4) (h5 : ¬ x = 5) (h : post 0) : wpX_isNumberField post x :=
  br_f h4 (br_f h5 h)
theorem fd_num (x : Int32) : (∃ f b, fd_fb f b ∧ x = nI f) ∨ (¬ x = 4 ∧ ¬ x = 5) := by
  by_cases h4 : x = 4
  · exact Or.inl ⟨4, 0, Or.inl ⟨rfl, rfl⟩, h4⟩
  · by_cases h5 : x = 5
    · exact Or.inl ⟨5, 48, Or.inr ⟨rfl, rfl⟩, h5⟩
    · exact Or.inr ⟨h4, h5⟩
theorem fd_lt2 (x : Int32) {a b : Nat} (hb : a + 1 = b) (h31 : b < 2 ^ 31) : nI b ≤ x ↔ nI a < x := by
  rw [Int32.le_iff_toInt_le, Int32.lt_iff_toInt_lt, nI_toInt h31, nI_toInt (by omega)]; omega
theorem fx_isTermOf {post : Int32 → Prop} {f t : Nat} (hf : f < 4) (ht : t < fd_lim f) (h : post 1) : wpX_isTermOf post (nI f) (nI t) := by
  have ht' : t < 10 := by unfold fd_lim at ht; split at ht <;> omega
  refine br_f (nI_pos (by omega)) ?_
  refine pk_eq f 3 (fun z => ?_) (fun z => ?_)
  · rw [fd_lim, if_pos z] at ht
    exact br_f (nI_ge (b := 8) ht (by decide)) h
  · exact br_f (nI_ge (b := 10) ht' (by decide)) h
theorem fx_isTermOf0 {post : Int32 → Prop} {f : Nat} {x : Int32} (hf : f < 4) (hx : x < 0 ∨ nI (fd_lim f) ≤ x) (h : post 0) : wpX_isTermOf post (nI f) x := by
  by_cases z : x < 0
  · exact br_t z h
  · have hx' := hx.resolve_left z
    refine br_f z ?_
    refine pk_eq f 3 (fun z => ?_) (fun z => ?_)
    · rw [fd_lim, if_pos z] at hx'
      exact br_t hx' h
    · rw [fd_lim, if_neg z] at hx'
      exact br_t hx' h
end
section
/-! the component's readers -/
section
variable {th : Int64} {mn : Nat} {wt wg : Nat → Int64} {va od fl fi se : Nat → Int32} {pa : Nat → Int64}
theorem fx_place_20 {post : Int32 → Prop} {f b p : Nat} {o : Nat → Nat} {x D : Int32} (hf : fd_fb f b) (hm : mn ≤ 48)
    (ho : ∀ i, i < mn → od (b + i) = nI (o i) ∧ o i < 48) (hp : p ≤ mn)
    (hl : ∀ i, i < p → fd_key va f (o i) < 64 * x.toInt + D.toInt)
    (hr : ∀ i, p ≤ i → i < mn → 64 * x.toInt + D.toInt ≤ fd_key va f (o i)) (hD : -1 ≤ D.toInt) (hD2 : D.toInt ≤ 48) (h : post (nI p)) :
    ∀ m i lo hi, m + i = 7 → lo ≤ p → p ≤ hi → hi ≤ mn → hi < lo + 2 ^ m → wX_placeOf_20 post (nI f) x D (nI b) th (nI mn) wt wg va od fl fi se pa (m + 1) (nI lo) (nI hi) (nI i) := by
  have hb : b ≤ 48 := by unfold fd_fb at hf; omega
  have hf6 := fd_fb6 hf
  intro m
  induction m with
  | zero =>
    intro i lo hi hi7 h1 h2 h3 h4
    rw [Nat.pow_zero] at h4
    have e : lo = p := by omega
    rw [e]
    exact br_t (nI_le (a := 7) (by omega) (by omega)) h
  | succ m ih =>
    intro i lo hi hi7 h1 h2 h3 h4
    rw [Nat.pow_succ] at h4
    generalize 2 ^ m = q at h4 ih
    refine br_f (nI_ge (b := 7) (by omega) (by decide)) ?_
    refine pk_le hi lo (fun z => ?_) (fun z => ?_)
    · have e : lo = p := by omega
      rw [e]
      exact h
    · obtain ⟨md, hmd⟩ : ∃ md, md = (lo + hi) / 2 := ⟨_, rfl⟩
      obtain ⟨h5, h6⟩ := ho md (by omega)
      have K : fd_key va f (o md) = 64 * (va (6 * o md + f)).toInt + (o md : Int) := rfl
      have hlt : fd_key va f (o md) < 64 * x.toInt + D.toInt → md < p := by
        intro y
        rcases Nat.lt_or_ge md p with g | g
        · exact g
        · have := hr md g (by omega); omega
      have hge : 64 * x.toInt + D.toInt ≤ fd_key va f (o md) → p ≤ md := by
        intro y
        rcases Nat.lt_or_ge md p with g | g
        · have := hl md g; omega
        · exact g
      refine ⟨by decide, nm_r (e' := nI md) ?_ ⟨fd_inA (by omega), nm_r (e' := nI (o md)) ?_ ⟨fd_in6 h6 hf6, nm_r (e' := va (6 * o md + f)) ?_ ?_⟩⟩⟩
      · rw [nI_add, hmd]
        exact pk_div (d := 2) (by omega) (by decide) (by decide)
      · rw [fd_clA (by omega), h5]
      · rw [fd_cl6 h6 hf6]
      · have hc1 : va (6 * o md + f) < x ↔ (va (6 * o md + f)).toInt < x.toInt := Int32.lt_iff_toInt_lt
        have hc2 : va (6 * o md + f) = x ↔ (va (6 * o md + f)).toInt = x.toInt := Int32.toInt_inj.symm
        have hc3 : D ≤ nI (o md) ↔ D.toInt ≤ (o md : Int) := by rw [Int32.le_iff_toInt_le, nI_toInt (by omega)]
        refine br_c (fun c1 => ?_) (fun c1 => ?_)
        · rw [hc1] at c1
          have y := hlt (by omega)
          exact nm_r (nI_1 md) (nm_r (nI_1 i) (ih (i + 1) (md + 1) hi (by omega) y h2 h3 (by omega)))
        · rw [hc1] at c1
          refine br_c (fun c2 => ?_) (fun c2 => ?_)
          · rw [hc2] at c2
            refine br_c (fun c3 => ?_) (fun c3 => ?_)
            · rw [hc3] at c3
              have y := hge (by omega)
              exact nm_r (nI_1 i) (ih (i + 1) lo md (by omega) h1 y (by omega) (by omega))
            · rw [hc3] at c3
              have y := hlt (by omega)
              exact nm_r (nI_1 md) (nm_r (nI_1 i) (ih (i + 1) (md + 1) hi (by omega) y h2 h3 (by omega)))
          · rw [hc2] at c2
            have y := hge (by omega)
            exact nm_r (nI_1 i) (ih (i + 1) lo md (by omega) h1 y (by omega) (by omega))
theorem fx_place {post : Int32 → Prop} {f b p : Nat} {o : Nat → Nat} {x D : Int32} (hf : fd_fb f b) (hm : mn ≤ 48)
    (ho : ∀ i, i < mn → od (b + i) = nI (o i) ∧ o i < 48) (hp : p ≤ mn)
    (hl : ∀ i, i < p → fd_key va f (o i) < 64 * x.toInt + D.toInt)
    (hr : ∀ i, p ≤ i → i < mn → 64 * x.toInt + D.toInt ≤ fd_key va f (o i)) (hD : -1 ≤ D.toInt) (hD2 : D.toInt ≤ 48) (h : post (nI p)) :
    wpX_placeOf post (th, nI mn, wt, wg, va, od, fl, fi, se, pa) (nI f) x D :=
  nm_r (e' := nI b) (fd_base hf) ⟨8, fx_place_20 hf hm ho hp hl hr hD hD2 h 7 0 0 mn rfl (Nat.zero_le _) hp (Nat.le_refl _) (by omega)⟩
theorem fx_withTerms_5 {post : Int64 → Prop} {f : Nat} {tm : Int32} (hf : f < 3)
    (h : ∀ s, (∀ e, fd_bl s e = fd_any (fun t => bt tm t && fd_bl (wt (10 * f + t)) e) 10) → post s) :
    ∀ n t s, t ≤ 10 → 10 < n + t → (∀ e, fd_bl s e = fd_any (fun t => bt tm t && fd_bl (wt (10 * f + t)) e) t) → wX_withTerms_5 post (nI f) tm th (nI mn) wt wg va od fl fi se pa n s (nI t) := by
  intro n
  induction n with
  | zero => intro t s h1 h2; omega
  | succ n ih =>
    intro t s h1 h2 hs
    refine pk_le 10 t (fun z => ?_) (fun z => ?_)
    · have : t = 10 := by omega
      subst this
      exact h s hs
    · refine fd_brc (fd_bi tm t (by omega)) (fun c => ?_) (fun c => ?_)
      · refine ⟨fd_in10 hf z, nm_r (e' := s ||| wt (10 * f + t)) (by rw [fd_cl10 hf z]) (nm_r (nI_1 t) (ih (t + 1) _ z (by omega) ?_))⟩
        intro e
        rw [fd_blo, hs e]
        show _ = (fd_any _ t || (bt tm t && _))
        rw [c]; rfl
      · refine nm_e (nm_r (nI_1 t) (ih (t + 1) _ z (by omega) ?_))
        intro e
        rw [fd_blo, hs e, fd_bl0]
        show _ = (fd_any _ t || (bt tm t && _))
        rw [c]; rfl
theorem fx_withTerms {post : Int64 → Prop} {f : Nat} {tm : Int32} (hf : f < 3)
    (h : ∀ s, (∀ e, fd_bl s e = fd_any (fun t => bt tm t && fd_bl (wt (10 * f + t)) e) 10) → post s) : wpX_withTerms post (th, nI mn, wt, wg, va, od, fl, fi, se, pa) (nI f) tm :=
  ⟨11, fx_withTerms_5 hf h 11 0 0 (by omega) (by omega) (fun e => fd_bl0 e)⟩
theorem fx_withTags_11 {post : Int64 → Prop} {tg md : Int32}
    (h : ∀ s, (∀ e, fd_bl s e = if md = 0 then fd_any (fun g => bt tg g && fd_bl (wg g) e) 8 else if md = 1 then (fd_bl th e && fd_all (fun g => !bt tg g || fd_bl (wg g) e) 8) else (fd_bl th e && !fd_any (fun g => bt tg g && fd_bl (wg g) e) 8)) → post s) :
    ∀ n g s a, g ≤ 8 → 8 < n + g → (∀ e, fd_bl s e = fd_any (fun g => bt tg g && fd_bl (wg g) e) g) → (∀ e, fd_bl a e = (fd_bl th e && fd_all (fun g => !bt tg g || fd_bl (wg g) e) g)) → wX_withTags_11 post tg md th (nI mn) wt wg va od fl fi se pa n s a (nI g) := by
  intro n
  induction n with
  | zero => intro g s a h1 h2; omega
  | succ n ih =>
    intro g s a h1 h2 hs ha
    refine pk_le 8 g (fun z => ?_) (fun z => ?_)
    · have : g = 8 := by omega
      subst this
      refine br_c (fun c => h _ ?_) (fun c => br_c (fun c2 => h _ ?_) (fun c2 => h _ ?_))
      · intro e; rw [if_pos c]; exact hs e
      · intro e; rw [if_neg c, if_pos c2]; exact ha e
      · intro e; rw [if_neg c, if_neg c2, fd_bnt, hs e]
    · refine fd_brc (fd_bi tg g (by omega)) (fun c => ?_) (fun c => ?_)
      · refine ⟨vp_in_nI z (by decide), nm_r (e' := s ||| wg g) (by rw [nI_clamp (by omega)]) ⟨vp_in_nI z (by decide), nm_r (e' := a &&& wg g) (by rw [nI_clamp (by omega)]) (nm_r (nI_1 g) (ih (g + 1) _ _ z (by omega) ?_ ?_))⟩⟩
        · intro e
          rw [fd_blo, hs e]
          show _ = (fd_any _ g || (bt tg g && _))
          rw [c]; rfl
        · intro e
          rw [fd_bla, ha e]
          show _ = (_ && (fd_all _ g && (!bt tg g || _)))
          rw [c, Bool.and_assoc]; rfl
      · refine nm_r (nI_1 g) (ih (g + 1) _ _ z (by omega) ?_ ?_)
        · intro e
          rw [hs e]
          show _ = (fd_any _ g || (bt tg g && _))
          rw [c]; simp
        · intro e
          rw [ha e]
          show _ = (_ && (fd_all _ g && (!bt tg g || _)))
          rw [c]; simp
theorem fx_withTags {post : Int64 → Prop} {tg md : Int32}
    (h : ∀ s, (∀ e, fd_bl s e = if md = 0 then fd_any (fun g => bt tg g && fd_bl (wg g) e) 8 else if md = 1 then (fd_bl th e && fd_all (fun g => !bt tg g || fd_bl (wg g) e) 8) else (fd_bl th e && !fd_any (fun g => bt tg g && fd_bl (wg g) e) 8)) → post s) :
    wpX_withTags post (th, nI mn, wt, wg, va, od, fl, fi, se, pa) tg md :=
  ⟨9, fx_withTags_11 h 9 0 0 th (by omega) (by omega) (fun e => fd_bl0 e) (fun e => by simp [fd_all])⟩
theorem fx_stretch_42 {post : Int64 → Prop} {b fr to : Nat} {o : Nat → Nat} (hb : b ≤ 48) (hm : mn ≤ 48)
    (ho : ∀ i, i < mn → od (b + i) = nI (o i) ∧ o i < 48) (ht : to ≤ mn)
    (h : ∀ s, (∀ e, fd_bl s e = true ↔ ∃ i, fr ≤ i ∧ i < to ∧ o i = e) → post s) :
    ∀ n k s, k ≤ to → fr ≤ k → to < n + k → (∀ e, fd_bl s e = true ↔ ∃ i, fr ≤ i ∧ i < k ∧ o i = e) → wX_stretch_42 post (nI b) (nI to) th (nI mn) wt wg va od fl fi se pa n s (nI k) := by
  intro n
  induction n with
  | zero => intro k s h1 _ h2; omega
  | succ n ih =>
    intro k s h1 h0 h2 hs
    refine pk_le to k (fun z => ?_) (fun z => ?_)
    · have : k = to := by omega
      subst this
      exact h s hs
    · obtain ⟨h5, h6⟩ := ho k (by omega)
      refine ⟨fd_inA (by omega), nm_r (e' := s ||| ((1 : Int64) <<< ((nI (o k)).toInt64 &&& 63))) (by rw [fd_clA (by omega), h5]) (nm_r (nI_1 k) (ih (k + 1) _ z (by omega) (by omega) ?_))⟩
      intro e
      rw [fd_bls s (o k) (by omega), Bool.or_eq_true, hs e, decide_eq_true_iff]
      constructor
      · rintro (⟨i, a, c, d⟩ | c)
        · exact ⟨i, a, by omega, d⟩
        · exact ⟨k, by omega, by omega, c.symm⟩
      · rintro ⟨i, a, c, d⟩
        by_cases y : i = k
        · subst y; exact Or.inr d.symm
        · exact Or.inl ⟨i, a, by omega, d⟩
theorem fx_stretch {post : Int64 → Prop} {f b : Nat} {T : Nat → Bool} {x y : Int32} (hf : fd_fb f b) (hO : fd_Ord f b T od mn va)
    (h : ∀ s, (∀ e, fd_bl s e = (T e && (decide (x ≤ va (6 * e + f)) && decide (va (6 * e + f) ≤ y)))) → post s) : wpX_stretch post (th, nI mn, wt, wg, va, od, fl, fi, se, pa) (nI f) x y := by
  obtain ⟨hm, o, ho, hs, hc⟩ := hO
  have hb : b ≤ 48 := by unfold fd_fb at hf; omega
  have D1 : (-1 : Int32).toInt = -1 := by decide
  have D2 : (48 : Int32).toInt = 48 := by decide
  refine nm_r (e' := nI b) (fd_base hf) (br_c (fun c => ?_) (fun c => ?_))
  · obtain ⟨p, hp, hl, hr⟩ := fd_split (fun i => fd_key va f (o i)) (64 * x.toInt + (-1 : Int32).toInt) mn hs
    obtain ⟨q, hq, hl2, hr2⟩ := fd_split (fun i => fd_key va f (o i)) (64 * y.toInt + (48 : Int32).toInt) mn hs
    rw [Int32.le_iff_toInt_le] at c
    have hpq : p ≤ q := by
      rcases Nat.lt_or_ge q p with g | g
      · have a1 := hl q g
        have a2 := hr2 q (Nat.le_refl _) (by omega)
        rw [D1] at a1
        rw [D2] at a2
        omega
      · exact g
    refine fx_place hf hm ho hp hl hr (by rw [D1]; omega) (by rw [D1]; omega) ?_
    refine fx_place hf hm ho hq hl2 hr2 (by rw [D2]; omega) (by rw [D2]; omega) ?_
    refine ⟨q + 1, fx_stretch_42 hb hm ho hq ?_ (q + 1) p 0 hpq (Nat.le_refl _) (by omega) ?_⟩
    · intro s hS
      apply h
      intro e
      apply fd_beq
      rw [hS e, Bool.and_eq_true, Bool.and_eq_true, decide_eq_true_iff, decide_eq_true_iff, Int32.le_iff_toInt_le, Int32.le_iff_toInt_le]
      constructor
      · rintro ⟨i, h1, h2, rfl⟩
        have a1 := hr i h1 (by omega)
        have a2 := hl2 i h2
        have K : fd_key va f (o i) = 64 * (va (6 * o i + f)).toInt + (o i : Int) := rfl
        have h48 := (ho i (by omega)).2
        rw [D1, K] at a1
        rw [D2, K] at a2
        exact ⟨(hc _).mpr ⟨i, by omega, rfl⟩, by omega, by omega⟩
      · rintro ⟨h1, h2, h3⟩
        obtain ⟨i, hi, rfl⟩ := (hc e).mp h1
        have K : fd_key va f (o i) = 64 * (va (6 * o i + f)).toInt + (o i : Int) := rfl
        have h48 := (ho i (by omega)).2
        refine ⟨i, ?_, ?_, rfl⟩
        · rcases Nat.lt_or_ge i p with g | g
          · have a1 := hl i g
            rw [D1, K] at a1
            omega
          · exact g
        · rcases Nat.lt_or_ge i q with g | g
          · exact g
          · have a1 := hr2 i g hi
            rw [D2, K] at a1
            omega
    · intro e
      rw [fd_bl0]
      constructor
      · intro z; exact absurd z (by decide)
      · rintro ⟨i, h1, h2, _⟩; omega
  · apply h
    intro e
    rw [fd_bl0]
    rw [Int32.le_iff_toInt_le] at c
    symm
    rw [Bool.and_eq_false_iff, Bool.and_eq_false_iff, decide_eq_false_iff_not, decide_eq_false_iff_not, Int32.le_iff_toInt_le, Int32.le_iff_toInt_le]
    omega
theorem fx_beside_8 {post : Int64 → Prop} {but : Int32} (hP : ∀ f, f < 6 → fd_Pas th va fl fi se pa f)
    (h : ∀ s, (∀ e, fd_bl s e = fd_M (fd_bl th) fl fi se va but e) → post s) :
    ∀ n f s, f ≤ 6 → 6 < n + f → (∀ e, fd_bl s e = (fd_bl th e && fd_all (fun f => decide (nI f = but) || fd_ps fl fi se va f e) f)) → wX_beside_8 post but th (nI mn) wt wg va od fl fi se pa n s (nI f) := by
  intro n
  induction n with
  | zero => intro f s h1 h2; omega
  | succ n ih =>
    intro f s h1 h2 hs
    refine pk_le 6 f (fun z => ?_) (fun z => ?_)
    · have : f = 6 := by omega
      subst this
      exact h s hs
    · refine br_c (fun c => ?_) (fun c => ?_)
      · refine nm_e (nm_r (nI_1 f) (ih (f + 1) _ z (by omega) ?_))
        intro e
        rw [fd_bla, hs e]
        show _ = (_ && (fd_all _ f && (decide (nI f = but) || _)))
        rw [decide_eq_true c]
        cases fd_bl th e <;> simp
      · refine ⟨vp_in_nI z (by decide), nm_r (e' := s &&& pa f) (by rw [nI_clamp (by omega)]) (nm_r (nI_1 f) (ih (f + 1) _ z (by omega) ?_))⟩
        intro e
        rw [fd_bla, hs e, hP f z e]
        show _ = (_ && (fd_all _ f && (decide (nI f = but) || _)))
        rw [decide_eq_false c]
        cases fd_bl th e <;> simp
theorem fx_beside {post : Int64 → Prop} {but : Int32} (hP : ∀ f, f < 6 → fd_Pas th va fl fi se pa f)
    (h : ∀ s, (∀ e, fd_bl s e = fd_M (fd_bl th) fl fi se va but e) → post s) : wpX_beside post (th, nI mn, wt, wg, va, od, fl, fi, se, pa) but :=
  ⟨7, fx_beside_8 hP h 7 0 th (by omega) (by omega) (fun e => by simp [fd_all])⟩
theorem fx_holders {post : Int64 → Prop} {f t : Nat} (hf : f < 4) (ht : t < fd_lim f) (h : post (fd_hold wt wg f t)) : wpX_holders post (th, nI mn, wt, wg, va, od, fl, fi, se, pa) (nI f) (nI t) := by
  unfold fd_hold at h
  refine pk_eq f 3 (fun z => ?_) (fun z => ?_)
  · rw [fd_lim, if_pos z] at ht
    rw [if_pos z] at h
    refine ⟨vp_in_nI ht (by decide), ?_⟩
    rw [nI_clamp (by omega)]
    exact h
  · rw [fd_lim, if_neg z] at ht
    rw [if_neg z] at h
    refine ⟨fd_in10 (by omega) ht, ?_⟩
    rw [fd_cl10 (by omega) ht]
    exact h
theorem fx_doc {post : Int32 → Prop} {d : Nat} (hd : d < 48) (hT : fd_bl th d = true) (h : post 1) : wpX_isDocument post (th, nI mn, wt, wg, va, od, fl, fi, se, pa) (nI d) :=
  br_f (nI_pos (by omega)) (br_f (nI_ge (b := 48) hd (by decide)) (br_t ((fd_bin th d (by omega)).mpr hT) h))
def fd_ND (T : Nat → Bool) (x : Int32) : Prop := x < 0 ∨ nI 48 ≤ x ∨ ∃ d, d < 48 ∧ x = nI d ∧ T d = false
theorem fd_doc (T : Nat → Bool) (x : Int32) : fd_ND T x ∨ ∃ d, d < 48 ∧ x = nI d ∧ T d = true := by
  rcases pk_ix x (n := 48) (by decide) with h | h | ⟨d, hd, e⟩
  · exact Or.inl (Or.inl h)
  · exact Or.inl (Or.inr (Or.inl h))
  · cases hT : T d with
    | true => exact Or.inr ⟨d, hd, e, hT⟩
    | false => exact Or.inl (Or.inr (Or.inr ⟨d, hd, e, hT⟩))
theorem fx_doc0 {post : Int32 → Prop} {x : Int32} (hx : fd_ND (fd_bl th) x) (h : post 0) : wpX_isDocument post (th, nI mn, wt, wg, va, od, fl, fi, se, pa) x := by
  by_cases z : x < 0
  · exact br_t z h
  · refine br_f z ?_
    rcases hx with c | c | ⟨d, hd, rfl, hT⟩
    · exact absurd c z
    · exact br_t c h
    · refine br_f (nI_ge (b := 48) hd (by decide)) (br_f ?_ h)
      rw [fd_bin th d (by omega), hT]
      decide
end
end
section
/-! the component's stores: the orders and the words -/
section
variable {th : Int64} {mn : Nat} {wt wg : Nat → Int64} {va od fl fi se : Nat → Int32} {pa : Nat → Int64}
theorem fx_enter_32 {post : SX → Prop} {b p : Nat} {x : Int32} (hb : b + mn < 96) (hp : p ≤ mn)
    (h : ∀ a : Nat → Int32, (∀ j, j < b + p → a j = od j) → a (b + p) = x → (∀ i, p < i → i ≤ mn → a (b + i) = od (b + i - 1)) → (∀ j, b + mn < j → a j = od j) → post (th, nI mn, wt, wg, va, a, fl, fi, se, pa)) :
    ∀ n k (a : Nat → Int32), k < n + p → p ≤ k → k ≤ mn → (∀ j, j < b + k → a j = od j) → (∀ i, k < i → i ≤ mn → a (b + i) = od (b + i - 1)) → (∀ j, b + mn < j → a j = od j) → wX_enter_32 post x (nI b) (nI p) th (nI mn) n (nI k) wt wg va a fl fi se pa := by
  intro n
  induction n with
  | zero => intro k a h1 h2; omega
  | succ n ih =>
    intro k a h1 h2 h3 hl hm hg
    by_cases z : k = p
    · refine br_t (nI_le (by omega) (by omega)) ⟨fd_inA (by omega), nm_r (e' := upd a (b + p) x) (by rw [fd_clA (by omega)]) (h _ ?_ pk_us ?_ ?_)⟩
      · intro j hj
        rw [pk_un (by omega)]; exact hl j (by omega)
      · intro i h4 h5
        rw [pk_un (by omega)]; exact hm i (by omega) h5
      · intro j hj
        rw [pk_un (by omega)]; exact hg j hj
    · obtain ⟨k', rfl⟩ : ∃ k', k = k' + 1 := ⟨k - 1, by omega⟩
      have e1 : (nI b + nI (k' + 1)) - 1 = nI (b + k') := by rw [nI_add]; exact nI_pred (b + k')
      refine br_f (nI_ge (by omega) (by omega)) ⟨by rw [e1]; exact vp_in_nI (by omega) (by decide), fd_inA (by omega), nm_r (e' := upd a (b + (k' + 1)) (od (b + k'))) ?_ (nm_r (pk_m1 k') (ih k' _ (by omega) (by omega) (by omega) ?_ ?_ ?_))⟩
      · rw [e1, fd_clA (by omega), nI_clamp (by omega), hl (b + k') (by omega)]
      · intro j hj
        rw [pk_un (by omega)]; exact hl j (by omega)
      · intro i h4 h5
        by_cases y : i = k' + 1
        · subst y
          rw [pk_us]
          exact congrArg od (by omega)
        · rw [pk_un (by omega)]; exact hm i (by omega) h5
      · intro j hj
        rw [pk_un (by omega)]; exact hg j hj
theorem fd_kinj {f a c : Nat} (ha : a < 48) (hc : c < 48) (h : fd_key va f a = fd_key va f c) : a = c := by
  unfold fd_key at h; omega
theorem fd_ord_in {f b p d : Nat} {T : Nat → Bool} {o : Nat → Nat} {a : Nat → Int32} (hm : mn < 48) (hd : d < 48) (hT : T d = false)
    (ho : ∀ i, i < mn → od (b + i) = nI (o i) ∧ o i < 48) (hs : ∀ i j, i < j → j < mn → fd_key va f (o i) < fd_key va f (o j))
    (hc : ∀ d, T d = true ↔ ∃ i, i < mn ∧ o i = d) (hp : p ≤ mn) (hl : ∀ i, i < p → fd_key va f (o i) < fd_key va f d)
    (hr : ∀ i, p ≤ i → i < mn → fd_key va f d ≤ fd_key va f (o i))
    (h1 : ∀ j, j < b + p → a j = od j) (h2 : a (b + p) = nI d) (h3 : ∀ i, p < i → i ≤ mn → a (b + i) = od (b + i - 1)) :
    fd_Ord f b (fun e => T e || decide (e = d)) a (mn + 1) va := by
  obtain ⟨o', ho'⟩ : ∃ o' : Nat → Nat, o' = fun i => if i < p then o i else if i = p then d else o (i - 1) := ⟨_, rfl⟩
  have e1 : ∀ i, i < p → o' i = o i := fun i hi => by rw [ho']; exact if_pos hi
  have e2 : o' p = d := by rw [ho']; dsimp only; rw [if_neg (by omega), if_pos rfl]
  have e3 : ∀ i, p < i → o' i = o (i - 1) := fun i hi => by rw [ho']; dsimp only; rw [if_neg (by omega), if_neg (by omega)]
  clear ho'
  refine ⟨by omega, o', ?_, ?_, ?_⟩
  · intro i hi
    rcases Nat.lt_trichotomy i p with z | z | z
    · rw [e1 i z, h1 (b + i) (by omega)]; exact ho i (by omega)
    · subst z; rw [e2]; exact ⟨h2, hd⟩
    · rw [e3 i z, h3 i z (by omega), show b + i - 1 = b + (i - 1) by omega]; exact ho (i - 1) (by omega)
  · intro i j hij hj
    rcases Nat.lt_trichotomy j p with z | z | z
    · rw [e1 i (by omega), e1 j z]; exact hs i j hij (by omega)
    · subst z; rw [e1 i hij, e2]; exact hl i hij
    · rw [e3 j z]
      rcases Nat.lt_trichotomy i p with y | y | y
      · rw [e1 i y]; exact hs i (j - 1) (by omega) (by omega)
      · subst y
        rw [e2]
        have a1 := hr (j - 1) (by omega) (by omega)
        have a2 : fd_key va f d ≠ fd_key va f (o (j - 1)) := by
          intro e
          have e := fd_kinj hd (ho (j - 1) (by omega)).2 e
          have : T d = true := (hc d).mpr ⟨j - 1, by omega, e.symm⟩
          rw [hT] at this
          exact absurd this (by decide)
        omega
      · rw [e3 i y]; exact hs (i - 1) (j - 1) (by omega) (by omega)
  · intro e
    show (T e || decide (e = d)) = true ↔ _
    rw [Bool.or_eq_true, hc e, decide_eq_true_iff]
    constructor
    · rintro (⟨i, hi, rfl⟩ | rfl)
      · rcases Nat.lt_or_ge i p with z | z
        · exact ⟨i, by omega, e1 i z⟩
        · exact ⟨i + 1, by omega, by rw [e3 (i + 1) (by omega)]; rfl⟩
      · exact ⟨p, by omega, e2⟩
    · rintro ⟨i, hi, rfl⟩
      rcases Nat.lt_trichotomy i p with z | z | z
      · exact Or.inl ⟨i, by omega, (e1 i z).symm⟩
      · subst z; exact Or.inr e2
      · exact Or.inl ⟨i - 1, by omega, (e3 i z).symm⟩
theorem fx_enter {post : SX → Prop} {f b d : Nat} {T : Nat → Bool} (hf : fd_fb f b) (hd : d < 48) (hT : T d = false) (hm : mn < 48)
    (hO : fd_Ord f b T od mn va)
    (h : ∀ a : Nat → Int32, fd_Ord f b (fun e => T e || decide (e = d)) a (mn + 1) va → (∀ j, (j < b ∨ b + 48 ≤ j) → a j = od j) → post (th, nI mn, wt, wg, va, a, fl, fi, se, pa)) :
    wpX_enter post (th, nI mn, wt, wg, va, od, fl, fi, se, pa) (nI f) (nI d) := by
  obtain ⟨_, o, ho, hs, hc⟩ := hO
  have hb : b ≤ 48 := by unfold fd_fb at hf; omega
  obtain ⟨p, hp, hl, hr⟩ := fd_split (fun i => fd_key va f (o i)) (fd_key va f d) mn hs
  have K : fd_key va f d = 64 * (va (6 * d + f)).toInt + (nI d).toInt := by rw [nI_toInt (by omega)]; rfl
  have D : (nI d).toInt = (d : Int) := nI_toInt (by omega)
  refine nm_r (e' := nI b) (fd_base hf) ⟨fd_in6 hd (fd_fb6 hf), ?_⟩
  rw [fd_cl6 hd (fd_fb6 hf)]
  refine fx_place hf (by omega) ho hp (by rw [← K]; exact hl) (by rw [← K]; exact hr) (by omega) (by omega) ?_
  refine ⟨mn + 1, fx_enter_32 (by omega) hp ?_ (mn + 1) mn od (by omega) hp (Nat.le_refl _) (fun _ _ => rfl) (fun i h1 h2 => by omega) (fun _ _ => rfl)⟩
  intro a h1 h2 h3 h4
  refine h a (fd_ord_in hm hd hT ho hs hc hp hl hr h1 h2 h3) ?_
  intro j hj
  rcases hj with z | z
  · exact h1 j (by omega)
  · exact h4 j (by omega)
theorem fx_leave_30 {post : SX → Prop} {b p : Nat} (hb : b + mn < 97) (hp : p + 1 ≤ mn)
    (h : ∀ a : Nat → Int32, (∀ j, j < b + p → a j = od j) → (∀ i, p ≤ i → i + 1 < mn → a (b + i) = od (b + i + 1)) → (∀ j, b + mn ≤ j + 1 → a j = od j) → post (th, nI mn, wt, wg, va, a, fl, fi, se, pa)) :
    ∀ n k (a : Nat → Int32), mn < n + k + 1 → p ≤ k → k + 1 ≤ mn → (∀ j, j < b + p → a j = od j) → (∀ i, p ≤ i → i < k → a (b + i) = od (b + i + 1)) → (∀ j, b + k ≤ j → a j = od j) → wX_leave_30 post (nI b) th (nI mn) n (nI k) wt wg va a fl fi se pa := by
  have em : nI mn - 1 = nI (mn - 1) := by
    obtain ⟨m, rfl⟩ : ∃ m, mn = m + 1 := ⟨mn - 1, by omega⟩
    exact nI_pred m
  intro n
  induction n with
  | zero => intro k a h1 h2; omega
  | succ n ih =>
    intro k a h1 h2 h3 hl hm hg
    refine pk_le (mn - 1) k (fun z => ?_) (fun z => ?_) em rfl
    · have : k = mn - 1 := by omega
      subst this
      exact h a hl (fun i h4 h5 => hm i h4 (by omega)) (fun j hj => hg j (by omega))
    · have e1 : (nI b + nI k) + 1 = nI (b + k + 1) := by rw [nI_add]; exact nI_1 (b + k)
      refine ⟨by rw [e1]; exact vp_in_nI (by omega) (by decide), fd_inA (by omega), nm_r (e' := upd a (b + k) (od (b + k + 1))) ?_ (nm_r (nI_1 k) (ih (k + 1) _ (by omega) (by omega) (by omega) ?_ ?_ ?_))⟩
      · rw [e1, fd_clA (by omega), nI_clamp (by omega), hg (b + k + 1) (by omega)]
      · intro j hj
        rw [pk_un (by omega)]; exact hl j hj
      · intro i h4 h5
        by_cases y : i = k
        · subst y
          rw [pk_us]
        · rw [pk_un (by omega)]; exact hm i h4 (by omega)
      · intro j hj
        rw [pk_un (by omega)]; exact hg j (by omega)
theorem fx_leave {post : SX → Prop} {f b d : Nat} {T : Nat → Bool} (hf : fd_fb f b) (hT : T d = true)
    (hO : fd_Ord f b T od mn va)
    (h : ∀ a : Nat → Int32, fd_Ord f b (fun e => T e && !decide (e = d)) a (mn - 1) va → (∀ j, (j < b ∨ b + 48 ≤ j) → a j = od j) → post (th, nI mn, wt, wg, va, a, fl, fi, se, pa)) :
    wpX_leave post (th, nI mn, wt, wg, va, od, fl, fi, se, pa) (nI f) (nI d) := by
  obtain ⟨hm, o, ho, hs, hc⟩ := hO
  have hb : b ≤ 48 := by unfold fd_fb at hf; omega
  obtain ⟨p, hp, hpd⟩ := (hc d).mp hT
  have hd : d < 48 := hpd ▸ (ho p hp).2
  have K : fd_key va f d = 64 * (va (6 * d + f)).toInt + (nI d).toInt := by rw [nI_toInt (by omega)]; rfl
  have D : (nI d).toInt = (d : Int) := nI_toInt (by omega)
  refine nm_r (e' := nI b) (fd_base hf) ⟨fd_in6 hd (fd_fb6 hf), ?_⟩
  rw [fd_cl6 hd (fd_fb6 hf)]
  refine fx_place (p := p) hf hm ho (by omega) ?_ ?_ (by omega) (by omega) ?_
  · intro i hi
    rw [← K, ← hpd]; exact hs i p hi hp
  · intro i h1 h2
    rw [← K, ← hpd]
    by_cases z : i = p
    · subst z; exact Int.le_refl _
    · exact Int.le_of_lt (hs p i (by omega) h2)
  refine ⟨mn + 1, fx_leave_30 (by omega) hp ?_ (mn + 1) p od (by omega) (Nat.le_refl _) hp (fun _ _ => rfl) (fun i h1 h2 => by omega) (fun _ _ => rfl)⟩
  intro a h1 h2 h3
  refine h a ?_ ?_
  · obtain ⟨o', ho'⟩ : ∃ o' : Nat → Nat, o' = fun i => if i < p then o i else o (i + 1) := ⟨_, rfl⟩
    have e1 : ∀ i, i < p → o' i = o i := fun i hi => by rw [ho']; exact if_pos hi
    have e3 : ∀ i, p ≤ i → o' i = o (i + 1) := fun i hi => by rw [ho']; exact if_neg (by omega)
    clear ho'
    have inj : ∀ i j, i < mn → j < mn → i ≠ j → o i ≠ o j := by
      intro i j hi hj hn e
      rcases Nat.lt_or_gt_of_ne hn with z | z
      · have := hs i j z hj; rw [e] at this; exact absurd this (Int.lt_irrefl _)
      · have := hs j i z hi; rw [e] at this; exact absurd this (Int.lt_irrefl _)
    refine ⟨by omega, o', ?_, ?_, ?_⟩
    · intro i hi
      rcases Nat.lt_or_ge i p with z | z
      · rw [e1 i z, h1 (b + i) (by omega)]; exact ho i (by omega)
      · rw [e3 i z, h2 i z (by omega), show b + i + 1 = b + (i + 1) by omega]; exact ho (i + 1) (by omega)
    · intro i j hij hj
      rcases Nat.lt_or_ge j p with z | z
      · rw [e1 i (by omega), e1 j z]; exact hs i j hij (by omega)
      · rw [e3 j z]
        rcases Nat.lt_or_ge i p with y | y
        · rw [e1 i y]; exact hs i (j + 1) (by omega) (by omega)
        · rw [e3 i y]; exact hs (i + 1) (j + 1) (by omega) (by omega)
    · intro e
      show (T e && !decide (e = d)) = true ↔ _
      rw [Bool.and_eq_true, hc e, Bool.not_eq_true', decide_eq_false_iff_not]
      constructor
      · rintro ⟨⟨i, hi, rfl⟩, hn⟩
        rcases Nat.lt_trichotomy i p with z | z | z
        · exact ⟨i, by omega, e1 i z⟩
        · subst z; exact absurd hpd hn
        · exact ⟨i - 1, by omega, by rw [e3 (i - 1) (by omega), show i - 1 + 1 = i by omega]⟩
      · rintro ⟨i, hi, rfl⟩
        rw [← hpd]
        rcases Nat.lt_or_ge i p with z | z
        · rw [e1 i z]; exact ⟨⟨i, by omega, rfl⟩, inj i p (by omega) hp (by omega)⟩
        · rw [e3 i z]; exact ⟨⟨i + 1, by omega, rfl⟩, inj (i + 1) p (by omega) hp (by omega)⟩
  · intro j hj
    rcases hj with z | z
    · exact h1 j (by omega)
    · exact h3 j (by omega)
theorem fx_mark_63 {post : SX → Prop} {d : Nat} {on : Bool} {v : Int32} (hd : d < 48)
    (h : ∀ w : Nat → Int64, (∀ g, g < 8 → ∀ e, fd_bl (w g) e = if (bt v g && decide (e = d)) = true then on else fd_bl (wg g) e) → post (th, nI mn, wt, w, va, od, fl, fi, se, pa)) :
    ∀ n g (w : Nat → Int64), g ≤ 8 → 8 < n + g → (∀ i, i < g → ∀ e, fd_bl (w i) e = if (bt v i && decide (e = d)) = true then on else fd_bl (wg i) e) → (∀ i, g ≤ i → w i = wg i) → wX_mark_63 post v (fd_b2i on) ((1 : Int64) <<< ((nI d).toInt64 &&& 63)) th (nI mn) n (nI g) wt w va od fl fi se pa := by
  intro n
  induction n with
  | zero => intro g w h1 h2; omega
  | succ n ih =>
    intro g w h1 h2 hl hg
    refine pk_le 8 g (fun z => ?_) (fun z => ?_)
    · have : g = 8 := by omega
      subst this
      exact h w hl
    · refine fd_brc (fd_bi v g (by omega)) (fun c => ?_) (fun c => ?_)
      · refine fd_br on (fun c2 => ?_) (fun c2 => ?_)
        · refine ⟨vp_in_nI z (by decide), vp_in_nI z (by decide), nm_r (e' := vp_updL w g (w g &&& (((1 : Int64) <<< ((nI d).toInt64 &&& 63)) ^^^ (-1)))) (by rw [nI_clamp (by omega)]) (nm_r (nI_1 g) (ih (g + 1) _ z (by omega) ?_ ?_))⟩
          · intro i hi e
            by_cases y : i = g
            · subst y
              rw [pk_uLs, fd_bln _ d (by omega), hg i (Nat.le_refl _), c, c2]
              by_cases y2 : e = d
              · simp [y2]
              · simp [y2]
            · rw [pk_uLn y]; exact hl i (by omega) e
          · intro i hi
            rw [pk_uLn (by omega)]; exact hg i (by omega)
        · refine ⟨vp_in_nI z (by decide), vp_in_nI z (by decide), nm_r (e' := vp_updL w g (w g ||| ((1 : Int64) <<< ((nI d).toInt64 &&& 63)))) (by rw [nI_clamp (by omega)]) (nm_r (nI_1 g) (ih (g + 1) _ z (by omega) ?_ ?_))⟩
          · intro i hi e
            by_cases y : i = g
            · subst y
              rw [pk_uLs, fd_bls _ d (by omega), hg i (Nat.le_refl _), c, c2]
              by_cases y2 : e = d
              · simp [y2]
              · simp [y2]
            · rw [pk_uLn y]; exact hl i (by omega) e
          · intro i hi
            rw [pk_uLn (by omega)]; exact hg i (by omega)
      · refine nm_r (nI_1 g) (ih (g + 1) _ z (by omega) ?_ ?_)
        · intro i hi e
          by_cases y : i = g
          · subst y
            rw [hg i (Nat.le_refl _), c]; rfl
          · exact hl i (by omega) e
        · intro i hi
          exact hg i (by omega)
theorem fx_mark {post : SX → Prop} {f d : Nat} {v : Int32} (on : Bool) (hf : f < 4) (hd : d < 48) (hv : fd_Fit f v)
    (h : ∀ wt' wg' : Nat → Int64, (∀ f', f' < 4 → ∀ t, t < fd_lim f' → ∀ e, fd_bl (fd_hold wt' wg' f' t) e = if (decide (f' = f) && fd_vh f v t && decide (e = d)) = true then on else fd_bl (fd_hold wt wg f' t) e) → post (th, nI mn, wt', wg', va, od, fl, fi, se, pa)) :
    wpX_mark post (th, nI mn, wt, wg, va, od, fl, fi, se, pa) (nI d) (nI f) v (fd_b2i on) := by
  refine nm_e ?_
  by_cases z : f = 3
  · subst z
    refine fx_isTermField0 (Or.inr (nI_le (Nat.le_refl _) (by decide))) (br_t rfl ⟨9, fx_mark_63 (wg := wg) hd ?_ 9 0 wg (by omega) (by omega) (fun i hi => by omega) (fun _ _ => rfl)⟩)
    intro w hw
    refine h wt w ?_
    intro f' hf' t ht e
    by_cases y : f' = 3
    · subst y
      rw [show fd_hold wt w 3 t = w t from rfl, show fd_hold wt wg 3 t = wg t from rfl, hw t ht e]
      show _ = if (decide (3 = 3) && bt v t && decide (e = d)) = true then _ else _
      rfl
    · rw [show fd_hold wt w f' t = fd_hold wt wg f' t from by unfold fd_hold; rw [if_neg y, if_neg y], decide_eq_false y]
      rfl
  · obtain ⟨t0, ht0, rfl⟩ := hv.1 (by omega)
    refine fx_isTermField (by omega) (br_f (by decide) (nm_r (fd_n10 f t0) (fd_br on (fun c => ?_) (fun c => ?_))))
    all_goals
      refine ⟨vp_in_nI (by omega) (by decide), vp_in_nI (by omega) (by decide), nm_e (h _ wg ?_)⟩
      rw [nI_clamp (by omega)]
      intro f' hf' t ht e
      by_cases y : f' = 3
      · rw [show ∀ w, fd_hold w wg f' t = wg t from fun w => by unfold fd_hold; rw [if_pos y], show fd_hold wt wg f' t = wg t from by unfold fd_hold; rw [if_pos y], decide_eq_false (show ¬ f' = f by omega)]
        rfl
      · have ht' : t < 10 := by rw [fd_lim, if_neg y] at ht; exact ht
        rw [show ∀ w, fd_hold w wg f' t = w (10 * f' + t) from fun w => by unfold fd_hold; rw [if_neg y], show fd_hold wt wg f' t = wt (10 * f' + t) from by unfold fd_hold; rw [if_neg y]]
        have ev : fd_vh f (nI t0) t = decide (t0 = t) := by
          unfold fd_vh
          rw [if_neg z]
          exact decide_eq_decide.mpr (nI_eq (by omega) (by omega))
        rw [ev]
        by_cases y2 : f' = f
        · by_cases y3 : t0 = t
          · subst y2 y3
            rw [pk_uLs]
            first
            | rw [fd_bln _ d (by omega)]
            | rw [fd_bls _ d (by omega)]
            rw [c]
            by_cases y4 : e = d
            · simp [y4]
            · simp [y4]
          · rw [pk_uLn (by omega), decide_eq_false y3]; simp
        · rw [pk_uLn (by omega), decide_eq_false y2]; rfl
theorem fx_mark_on {post : SX → Prop} {f d : Nat} {v : Int32} {T : Nat → Bool} {va0 : Nat → Int32} (hf : f < 4) (hd : d < 48) (hv : fd_Fit f v)
    (hG : fd_Grp f T va0 wt wg) (hT : T d = false) (hva : va0 (6 * d + f) = v)
    (h : ∀ wt' wg' : Nat → Int64, fd_Grp f (fun e => T e || decide (e = d)) va0 wt' wg' → (∀ f' T' va', f' < 4 → f' ≠ f → fd_Grp f' T' va' wt wg → fd_Grp f' T' va' wt' wg') → post (th, nI mn, wt', wg', va, od, fl, fi, se, pa)) :
    wpX_mark post (th, nI mn, wt, wg, va, od, fl, fi, se, pa) (nI d) (nI f) v 1 := by
  refine fx_mark true hf hd hv ?_
  intro wt' wg' hw
  refine h wt' wg' ?_ ?_
  · intro t ht e
    rw [hw f hf t ht e, hG t ht e, decide_eq_true rfl]
    by_cases y : e = d
    · subst y
      unfold fd_hs
      rw [hva, hT]
      cases fd_vh f v t <;> simp
    · simp [y]
  · intro f' T' va' hf' hn hG' t ht e
    rw [hw f' hf' t ht e, decide_eq_false hn]
    exact hG' t ht e
theorem fx_mark_off {post : SX → Prop} {f d : Nat} {v : Int32} {T : Nat → Bool} {va0 : Nat → Int32} (hf : f < 4) (hd : d < 48) (hv : fd_Fit f v)
    (hG : fd_Grp f T va0 wt wg) (hva : va0 (6 * d + f) = v)
    (h : ∀ wt' wg' : Nat → Int64, fd_Grp f (fun e => T e && !decide (e = d)) va0 wt' wg' → (∀ f' T' va', f' < 4 → f' ≠ f → fd_Grp f' T' va' wt wg → fd_Grp f' T' va' wt' wg') → post (th, nI mn, wt', wg', va, od, fl, fi, se, pa)) :
    wpX_mark post (th, nI mn, wt, wg, va, od, fl, fi, se, pa) (nI d) (nI f) v 0 := by
  refine fx_mark false hf hd hv ?_
  intro wt' wg' hw
  refine h wt' wg' ?_ ?_
  · intro t ht e
    rw [hw f hf t ht e, hG t ht e, decide_eq_true rfl]
    by_cases y : e = d
    · subst y
      unfold fd_hs
      rw [hva]
      cases fd_vh f v t <;> simp
    · simp [y]
  · intro f' T' va' hf' hn hG' t ht e
    rw [hw f' hf' t ht e, decide_eq_false hn]
    exact hG' t ht e
end
end
section
/-! who passes: the words against the picture -/
theorem fd_ps_c {fl fl' fi fi' se se' va va' : Nat → Int32} {g e : Nat} (h1 : fl g = fl' g) (h2 : fi g = fi' g) (h3 : se g = se' g) (h4 : va (6 * e + g) = va' (6 * e + g)) :
    fd_ps fl fi se va g e = fd_ps fl' fi' se' va' g e := by
  unfold fd_ps
  by_cases z : g = 3
  · subst z
    rw [h1, h2, h3, h4]
  · rw [h1, h2, h3, h4]
    rcases Nat.lt_or_gt_of_ne z with y | y
    · rw [if_neg (show ¬ 3 < g by omega), if_pos y, if_neg (show ¬ 3 < g by omega), if_pos y]
    · rw [if_pos y, if_pos y]
theorem fd_and0 (v tg : Int32) (h : ∀ g, 8 ≤ g → bt tg g = false) : v &&& tg = 0 ↔ ∀ g, g < 8 → bt tg g = true → bt v g = false := by
  constructor
  · intro e g _ ht
    have e2 : bt (v &&& tg) g = bt 0 g := by rw [e]
    rw [b_and, b_0, ht] at e2
    simpa using e2
  · intro hh
    apply b_ext
    intro i _
    rw [b_and, b_0]
    rcases Nat.lt_or_ge i 8 with z | z
    · cases c : bt tg i with
      | false => simp
      | true => rw [hh i z c]; rfl
    · rw [h i z]; simp
theorem fd_andE (v tg : Int32) (h : ∀ g, 8 ≤ g → bt tg g = false) : v &&& tg = tg ↔ ∀ g, g < 8 → bt tg g = true → bt v g = true := by
  constructor
  · intro e g _ ht
    have e2 : bt (v &&& tg) g = bt tg g := by rw [e]
    rw [b_and, ht] at e2
    simpa using e2
  · intro hh
    apply b_ext
    intro i _
    rw [b_and]
    rcases Nat.lt_or_ge i 8 with z | z
    · cases c : bt tg i with
      | false => simp
      | true => rw [hh i z c]; rfl
    · rw [h i z]; simp
theorem fd_f3b {fi : Nat → Int32} (h : fd_F3 fi) : ∀ g, 8 ≤ g → bt (fi 3) g = false := by
  obtain ⟨t, ht, e⟩ := h
  intro g hg
  rw [e, fd_btN _ _ (by omega), Nat.testBit_lt_two_pow]
  exact Nat.lt_of_lt_of_le ht (Nat.pow_le_pow_right (n := 2) (by decide) hg)
section
variable {th : Int64} {mn : Nat} {wt wg : Nat → Int64} {va od fl fi se : Nat → Int32} {pa : Nat → Int64}
theorem fd_term {f e : Nat} (hf : f < 3) (hC : fd_Cor th mn wt wg va od) (hfl : ¬ fl f = 0) :
    fd_any (fun t => bt (fi f) t && fd_bl (wt (10 * f + t)) e) 10 = (fd_bl th e && fd_ps fl fi se va f e) := by
  obtain ⟨h48, _, hG, _, _, hV⟩ := hC
  have hps : fd_ps fl fi se va f e = decide (((fi f >>> (va (6 * e + f) &&& 31)) &&& 1) = 1) := by
    unfold fd_ps
    rw [if_neg hfl, if_neg (by omega), if_pos hf]
  have hg : ∀ t, t < 10 → fd_bl (wt (10 * f + t)) e = (fd_bl th e && decide (va (6 * e + f) = nI t)) := by
    intro t ht
    have a := hG f (by omega) t (by rw [fd_lim, if_neg (by omega)]; exact ht) e
    unfold fd_hold fd_hs fd_vh at a
    rw [if_neg (by omega), if_neg (by omega)] at a
    exact a
  apply fd_beq
  rw [fd_any_i, hps, Bool.and_eq_true, decide_eq_true_iff]
  constructor
  · rintro ⟨t, ht, c⟩
    rw [Bool.and_eq_true, hg t ht, Bool.and_eq_true, decide_eq_true_iff] at c
    obtain ⟨c1, c2, c3⟩ := c
    refine ⟨c2, ?_⟩
    rw [c3]
    exact (fd_bi (fi f) t (by omega)).mpr c1
  · rintro ⟨c2, c1⟩
    have he : e < 48 := by
      rcases Nat.lt_or_ge e 48 with z | z
      · exact z
      · rw [h48 e z] at c2; exact absurd c2 (by decide)
    obtain ⟨t, ht, c3⟩ := (hV e he f (by omega)).1 hf
    rw [c3] at c1
    refine ⟨t, ht, ?_⟩
    rw [Bool.and_eq_true, hg t ht, Bool.and_eq_true, decide_eq_true_iff]
    exact ⟨(fd_bi (fi f) t (by omega)).mp c1, c2, c3⟩
theorem fd_tag {e : Nat} (hC : fd_Cor th mn wt wg va od) (h3 : fd_F3 fi) (hfl : ¬ fl 3 = 0) :
    (if se 3 = 0 then fd_any (fun g => bt (fi 3) g && fd_bl (wg g) e) 8 else if se 3 = 1 then (fd_bl th e && fd_all (fun g => !bt (fi 3) g || fd_bl (wg g) e) 8) else (fd_bl th e && !fd_any (fun g => bt (fi 3) g && fd_bl (wg g) e) 8)) = (fd_bl th e && fd_ps fl fi se va 3 e) := by
  obtain ⟨h48, _, hG, _, _, hV⟩ := hC
  have hb := fd_f3b h3
  have hg : ∀ g, g < 8 → fd_bl (wg g) e = (fd_bl th e && bt (va (6 * e + 3)) g) := by
    intro g hg
    exact hG 3 (by omega) g hg e
  have hany : fd_any (fun g => bt (fi 3) g && fd_bl (wg g) e) 8 = (fd_bl th e && !decide (va (6 * e + 3) &&& fi 3 = 0)) := by
    apply fd_beq
    rw [fd_any_i, Bool.and_eq_true, Bool.not_eq_true', decide_eq_false_iff_not, fd_and0 _ _ hb]
    constructor
    · rintro ⟨g, h1, c⟩
      rw [Bool.and_eq_true, hg g h1, Bool.and_eq_true] at c
      obtain ⟨c1, c2, c3⟩ := c
      refine ⟨c2, fun z => ?_⟩
      have := z g h1 c1
      rw [c3] at this
      exact absurd this (by decide)
    · rintro ⟨c2, c⟩
      apply Classical.byContradiction
      intro hn
      apply c
      intro g h1 c1
      cases c3 : bt (va (6 * e + 3)) g with
      | false => rfl
      | true =>
        refine absurd ⟨g, h1, ?_⟩ hn
        rw [hg g h1, c1, c2, c3]
        rfl
  have hall : (fd_bl th e && fd_all (fun g => !bt (fi 3) g || fd_bl (wg g) e) 8) = (fd_bl th e && decide (va (6 * e + 3) &&& fi 3 = fi 3)) := by
    apply fd_beq
    rw [Bool.and_eq_true, Bool.and_eq_true, fd_all_i, decide_eq_true_iff, fd_andE _ _ hb]
    constructor
    · rintro ⟨c2, c⟩
      refine ⟨c2, fun g h1 c1 => ?_⟩
      have := c g h1
      rw [hg g h1, c1, c2] at this
      simpa using this
    · rintro ⟨c2, c⟩
      refine ⟨c2, fun g h1 => ?_⟩
      rw [hg g h1, c2]
      cases c1 : bt (fi 3) g with
      | false => rfl
      | true => rw [c g h1 c1]; rfl
  have hps : fd_ps fl fi se va 3 e = if se 3 = 0 then !decide (va (6 * e + 3) &&& fi 3 = 0) else if se 3 = 1 then decide (va (6 * e + 3) &&& fi 3 = fi 3) else decide (va (6 * e + 3) &&& fi 3 = 0) := by
    unfold fd_ps
    rw [if_neg hfl, if_neg (by decide), if_neg (by decide)]
  rw [hps]
  by_cases m0 : se 3 = 0
  · rw [if_pos m0, if_pos m0]; exact hany
  · rw [if_neg m0, if_neg m0]
    by_cases m1 : se 3 = 1
    · rw [if_pos m1, if_pos m1]; exact hall
    · rw [if_neg m1, if_neg m1, hany]
      cases fd_bl th e <;> simp
theorem fx_refresh {post : SX → Prop} {f : Nat} (hf : f < 6) (hC : fd_Cor th mn wt wg va od) (h3 : fd_F3 fi)
    (h : ∀ s, (∀ e, fd_bl s e = (fd_bl th e && fd_ps fl fi se va f e)) → post (th, nI mn, wt, wg, va, od, fl, fi, se, vp_updL pa f s)) : wpX_refresh post (th, nI mn, wt, wg, va, od, fl, fi, se, pa) (nI f) := by
  have cl : (nI f).toNatClampNeg = f := nI_clamp (by omega)
  have hin : vp_in (nI f) 6 := vp_in_nI hf (by decide)
  refine ⟨hin, ?_⟩
  rw [cl]
  refine br_c (fun c => ⟨hin, nm_e (h th ?_)⟩) (fun c => ?_)
  · intro e
    unfold fd_ps
    rw [if_pos c]
    simp
  · rcases Nat.lt_trichotomy f 3 with z | z | z
    · refine fx_isTermField z (br_f (by decide) ⟨hin, fx_withTerms z ?_⟩)
      intro s hs
      refine ⟨hin, nm_e (h s ?_)⟩
      intro e
      rw [hs e]
      exact fd_term z hC c
    · subst z
      refine fx_isTermField0 (Or.inr (nI_le (Nat.le_refl _) (by decide))) (br_t rfl (br_t rfl ⟨hin, hin, fx_withTags ?_⟩))
      intro s hs
      refine ⟨hin, nm_e (h s ?_)⟩
      intro e
      rw [hs e]
      exact fd_tag hC h3 c
    · have hO : ∃ b, fd_fb f b ∧ fd_Ord f b (fd_bl th) od mn va := by
        obtain ⟨_, _, _, h4, h5, _⟩ := hC
        by_cases y : f = 4
        · subst y; exact ⟨0, Or.inl ⟨rfl, rfl⟩, h4⟩
        · have : f = 5 := by omega
          subst this; exact ⟨48, Or.inr ⟨rfl, rfl⟩, h5⟩
      obtain ⟨b, hfb, hO⟩ := hO
      refine fx_isTermField0 (Or.inr (nI_le (by omega) (by omega))) (br_t rfl (br_f ?_ ⟨hin, hin, fx_stretch hfb hO ?_⟩))
      · intro y
        have := (nI_eq (a := f) (b := 3) (by omega) (by decide)).mp y
        omega
      · intro s hs
        refine ⟨hin, nm_e (h s ?_)⟩
        intro e
        rw [hs e]
        unfold fd_ps
        rw [if_neg c, if_pos z]
theorem fx_refreshAll_2 {post : SX → Prop} (hC : fd_Cor th mn wt wg va od) (h3 : fd_F3 fi)
    (h : ∀ p : Nat → Int64, (∀ g, g < 6 → fd_Pas th va fl fi se p g) → post (th, nI mn, wt, wg, va, od, fl, fi, se, p)) :
    ∀ n f (p : Nat → Int64), f ≤ 6 → 6 < n + f → (∀ g, g < f → fd_Pas th va fl fi se p g) → wX_refreshAll_2 post n (nI f) th (nI mn) wt wg va od fl fi se p := by
  intro n
  induction n with
  | zero => intro f p h1 h2; omega
  | succ n ih =>
    intro f p h1 h2 hp
    refine pk_le 6 f (fun z => ?_) (fun z => ?_)
    · have : f = 6 := by omega
      subst this
      exact h p hp
    · refine fx_refresh z hC h3 ?_
      intro s hs
      refine nm_r (nI_1 f) (ih (f + 1) _ z (by omega) ?_)
      intro g hg
      by_cases y : g = f
      · subst y
        intro e
        rw [pk_uLs]
        exact hs e
      · intro e
        rw [pk_uLn y]
        exact hp g (by omega) e
theorem fx_refreshAll {post : SX → Prop} (hC : fd_Cor th mn wt wg va od) (h3 : fd_F3 fi)
    (h : ∀ p : Nat → Int64, (∀ g, g < 6 → fd_Pas th va fl fi se p g) → post (th, nI mn, wt, wg, va, od, fl, fi, se, p)) : wpX_refreshAll post (th, nI mn, wt, wg, va, od, fl, fi, se, pa) :=
  ⟨7, fx_refreshAll_2 hC h3 h 7 0 pa (by omega) (by omega) (fun g hg => by omega)⟩
theorem fd_M48 {but : Int32} (h48 : ∀ e, 48 ≤ e → fd_bl th e = false) : ∀ j, 48 ≤ j → fd_M (fd_bl th) fl fi se va but j = false := by
  intro j hj
  unfold fd_M
  rw [h48 j hj]
  rfl
theorem fx_matching {post : Int32 → Prop} (h48 : ∀ e, 48 ≤ e → fd_bl th e = false) (hP : ∀ f, f < 6 → fd_Pas th va fl fi se pa f)
    (h : post (nI (fd_cnt (fd_M (fd_bl th) fl fi se va (-1)) 48))) : wpX_matching post (th, nI mn, wt, wg, va, od, fl, fi, se, pa) :=
  fx_beside hP (fun _ hs => fx_ones hs (fd_M48 h48) h)
theorem fx_setFilter {post : Int32 → SX → Prop} {f : Nat} {x y : Int32} (hf : f < 6) (hC : fd_Cor th mn wt wg va od) (h3 : fd_F3 (upd fi f x))
    (hP : ∀ g, g < 6 → fd_Pas th va fl fi se pa g)
    (h : ∀ p : Nat → Int64, (∀ g, g < 6 → fd_Pas th va (upd fl f 1) (upd fi f x) (upd se f y) p g) → post (nI (fd_cnt (fd_M (fd_bl th) (upd fl f 1) (upd fi f x) (upd se f y) va (-1)) 48)) (th, nI mn, wt, wg, va, od, upd fl f 1, upd fi f x, upd se f y, p)) :
    wpX_setFilter post (th, nI mn, wt, wg, va, od, fl, fi, se, pa) (nI f) x y := by
  have cl : (nI f).toNatClampNeg = f := nI_clamp (by omega)
  have hin : vp_in (nI f) 6 := vp_in_nI hf (by decide)
  refine ⟨hin, nm_r (e' := upd fl f 1) (by rw [cl]; rfl) ⟨hin, nm_r (e' := upd fi f x) (by rw [cl]) ⟨hin, nm_r (e' := upd se f y) (by rw [cl]) (fx_refresh hf hC h3 ?_)⟩⟩⟩
  intro s hs
  have hP' : ∀ g, g < 6 → fd_Pas th va (upd fl f 1) (upd fi f x) (upd se f y) (vp_updL pa f s) g := by
    intro g hg e
    by_cases z : g = f
    · subst z
      rw [pk_uLs]
      exact hs e
    · rw [pk_uLn z, hP g hg e]
      exact congrArg _ (fd_ps_c (pk_un z).symm (pk_un z).symm (pk_un z).symm rfl)
  exact fx_matching hC.1 hP' (h _ hP')
end
end
section
/-! the reference's readers -/
section
variable {T : Nat → Bool} {mo : Int32} {ath va fl fi hi mk se : Nat → Int32}
theorem fy_passes {post : Int32 → Prop} {d f : Nat} (hd : d < 48) (hf : f < 6) (hY : fd_YR T mo ath hi se)
    (h : post (fd_b2i (fd_ps fl fi se va f d))) : wpY_passesField post (mo, ath, va, fl, fi, hi, mk) (nI d) (nI f) := by
  obtain ⟨_, hmo, h4, h5⟩ := hY
  have cl : (nI f).toNatClampNeg = f := nI_clamp (by omega)
  have hin : vp_in (nI f) 6 := vp_in_nI hf (by decide)
  unfold fd_ps at h
  refine ⟨fd_in6 hd hf, nm_r (e' := va (6 * d + f)) (by rw [fd_cl6 hd hf]) ⟨hin, ?_⟩⟩
  rw [cl]
  refine br_c (fun c => ?_) (fun c => ?_)
  · rw [if_pos c] at h; exact h
  · rw [if_neg c] at h
    refine pk_le f 3 (fun z => ?_) (fun z => ?_)
    · rw [if_neg (by omega)] at h
      refine pk_le 3 f (fun y => ?_) (fun y => ?_)
      · have : f = 3 := by omega
        subst this
        rw [if_neg (by omega)] at h
        subst hmo
        refine nm_e (br_c (fun m0 => ?_) (fun m0 => br_c (fun m1 => ?_) (fun m1 => ?_)))
        · rw [if_pos m0] at h
          refine br_c (fun w => ?_) (fun w => ?_)
          · rw [decide_eq_true w] at h; exact h
          · rw [decide_eq_false w] at h; exact h
        · rw [if_neg m0, if_pos m1] at h
          refine br_c (fun w => ?_) (fun w => ?_)
          · rw [decide_eq_true w] at h; exact h
          · rw [decide_eq_false w] at h; exact h
        · rw [if_neg m0, if_neg m1] at h
          refine br_c (fun w => ?_) (fun w => ?_)
          · rw [decide_eq_true w] at h; exact h
          · rw [decide_eq_false w] at h; exact h
      · rw [if_pos y] at h
        refine ⟨hin, br_c (fun w => ?_) (fun w => ?_)⟩
        · rw [decide_eq_true w] at h; exact h
        · rw [decide_eq_false w] at h; exact h
    · rw [if_pos z] at h
      have ehi : hi f = se f := by
        by_cases y : f = 4
        · subst y; exact h4
        · have : f = 5 := by omega
          subst this; exact h5
      rw [ehi]
      refine ⟨hin, br_c (fun w => ?_) (fun w => ⟨hin, br_c (fun w2 => ?_) (fun w2 => ?_)⟩)⟩
      · rw [decide_eq_false (Int32.not_le.mpr w)] at h; exact h
      · rw [decide_eq_false (Int32.not_le.mpr w2), Bool.and_false] at h; exact h
      · rw [decide_eq_true (Int32.not_lt.mp w), decide_eq_true (Int32.not_lt.mp w2)] at h; exact h
theorem fy_matches_10 {post : Int32 → Prop} {d : Nat} {but : Int32} (hd : d < 48) (hY : fd_YR T mo ath hi se)
    (h : post (fd_b2i (fd_M T fl fi se va but d))) :
    ∀ n f, f ≤ 6 → 6 < n + f → wY_matches_10 post (nI d) but mo ath va fl fi hi mk n (fd_b2i (T d && fd_all (fun f => decide (nI f = but) || fd_ps fl fi se va f d) f)) (nI f) := by
  intro n
  induction n with
  | zero => intro f h1 h2; omega
  | succ n ih =>
    intro f h1 h2
    have E : ∀ x, x = (T d && fd_all (fun f => decide (nI f = but) || fd_ps fl fi se va f d) (f + 1)) → f < 6 → wY_matches_10 post (nI d) but mo ath va fl fi hi mk n (fd_b2i x) (nI (f + 1)) := by
      intro x hx hf
      rw [hx]
      exact ih (f + 1) hf (by omega)
    have N : (T d && fd_all (fun f => decide (nI f = but) || fd_ps fl fi se va f d) (f + 1)) = ((T d && fd_all (fun f => decide (nI f = but) || fd_ps fl fi se va f d) f) && (decide (nI f = but) || fd_ps fl fi se va f d)) := by
      rw [Bool.and_assoc]; rfl
    rw [N] at E
    refine pk_le 6 f (fun z => ?_) (fun z => ?_)
    · have : f = 6 := by omega
      subst this
      exact ⟨fd_narb _, h⟩
    · refine fd_br _ (fun c => ?_) (fun c => ?_)
      · refine nm_r (nI_1 f) (E false ?_ z)
        rw [c]; rfl
      · rw [c] at E
        refine br_c (fun c2 => ?_) (fun c2 => ?_)
        · refine nm_r (nI_1 f) (E true ?_ z)
          rw [decide_eq_true c2]; rfl
        · rw [decide_eq_false c2] at E
          refine fy_passes hd z hY (fd_br _ (fun c3 => ?_) (fun c3 => ?_))
          · refine nm_r (nI_1 f) (E false ?_ z)
            rw [c3]; rfl
          · refine nm_r (nI_1 f) (E true ?_ z)
            rw [c3]; rfl
theorem fy_matches {post : Int32 → Prop} {d : Nat} {but : Int32} (hd : d < 48) (hY : fd_YR T mo ath hi se)
    (h : post (fd_b2i (fd_M T fl fi se va but d))) : wpY_matches post (mo, ath, va, fl, fi, hi, mk) (nI d) but := by
  refine ⟨vp_in_nI hd (by decide), nm_r (e' := fd_b2i (T d && fd_all (fun f => decide (nI f = but) || fd_ps fl fi se va f d) 0)) ?_ ⟨7, fy_matches_10 hd hY h 7 0 (by omega) (by omega)⟩⟩
  rw [nI_clamp (by omega), hY.1 d hd]
  show _ = fd_b2i (T d && true)
  rw [Bool.and_true]
theorem fy_matching_4 {post : Int32 → Prop} (hY : fd_YR T mo ath hi se) (h : post (nI (fd_cnt (fd_M T fl fi se va (-1)) 48))) :
    ∀ n d, d ≤ 48 → 48 < n + d → wY_matching_4 post mo ath va fl fi hi mk n (nI (fd_cnt (fd_M T fl fi se va (-1)) d)) (nI d) := by
  intro n
  induction n with
  | zero => intro d h1 h2; omega
  | succ n ih =>
    intro d h1 h2
    refine pk_le 48 d (fun z => ?_) (fun z => ?_)
    · have : d = 48 := by omega
      subst this
      exact h
    · have I := ih (d + 1) z (by omega)
      refine fy_matches z hY (fd_br _ (fun c => ?_) (fun c => ?_))
      · rw [fd_cnt_f c] at I
        exact nm_r (nI_1 d) I
      · rw [fd_cnt_t c] at I
        exact nm_r (nI_1 _) (nm_r (nI_1 d) I)
theorem fy_matching {post : Int32 → Prop} (hY : fd_YR T mo ath hi se) (h : post (nI (fd_cnt (fd_M T fl fi se va (-1)) 48))) : wpY_matching post (mo, ath, va, fl, fi, hi, mk) :=
  ⟨49, fy_matching_4 hY h 49 0 (by omega) (by omega)⟩
theorem fy_documents_4 {post : Int32 → Prop} (hY : ∀ d, d < 48 → ath d = fd_b2i (T d)) (h : post (nI (fd_cnt T 48))) :
    ∀ n d, d ≤ 48 → 48 < n + d → wY_documents_4 post mo ath va fl fi hi mk n (nI (fd_cnt T d)) (nI d) := by
  intro n
  induction n with
  | zero => intro d h1 h2; omega
  | succ n ih =>
    intro d h1 h2
    refine pk_le 48 d (fun z => ?_) (fun z => ?_)
    · have : d = 48 := by omega
      subst this
      exact h
    · have I := ih (d + 1) z (by omega)
      refine ⟨vp_in_nI z (by decide), ?_⟩
      rw [nI_clamp (by omega), hY d z]
      refine fd_br _ (fun c => ?_) (fun c => ?_)
      · rw [fd_cnt_f c] at I
        exact nm_r (nI_1 d) I
      · rw [fd_cnt_t c] at I
        exact nm_r (nI_1 _) (nm_r (nI_1 d) I)
theorem fy_documents {post : Int32 → Prop} (hY : ∀ d, d < 48 → ath d = fd_b2i (T d)) (h : post (nI (fd_cnt T 48))) : wpY_documents post (mo, ath, va, fl, fi, hi, mk) :=
  ⟨49, fy_documents_4 hY h 49 0 (by omega) (by omega)⟩
theorem fy_has {post : Int32 → Prop} {d f t : Nat} (hd : d < 48) (hf : f < 6) (ht : t < 10) (h : post (fd_b2i (fd_hs va f t d))) : wpY_has post (mo, ath, va, fl, fi, hi, mk) (nI d) (nI f) (nI t) := by
  unfold fd_hs fd_vh at h
  refine ⟨fd_in6 hd hf, nm_r (e' := va (6 * d + f)) (by rw [fd_cl6 hd hf]) ?_⟩
  refine pk_eq f 3 (fun z => ?_) (fun z => ?_)
  · rw [if_pos z] at h
    refine fd_brc (fd_bi _ t (by omega)) (fun c => ?_) (fun c => ?_)
    · rw [c] at h; exact h
    · rw [c] at h; exact h
  · rw [if_neg z] at h
    refine br_c (fun w => ?_) (fun w => ?_)
    · rw [decide_eq_true w] at h; exact h
    · rw [decide_eq_false w] at h; exact h
theorem fy_isTerm {post : Int32 → Prop} {f t : Nat} (hf : f < 6) (ht : t < fd_lim f) (h : post 1) : wpY_isTerm post (mo, ath, va, fl, fi, hi, mk) (nI f) (nI t) := by
  have ht' : t < 10 := by unfold fd_lim at ht; split at ht <;> omega
  refine br_f (nI_pos (by omega)) ?_
  refine pk_eq f 3 (fun z => ?_) (fun z => ?_)
  · rw [fd_lim, if_pos z] at ht
    exact br_f (nI_nlt (a := 7) (by omega) (by decide)) h
  · exact br_f (nI_nlt (a := 9) (by omega) (by decide)) h
theorem fy_isTerm0 {post : Int32 → Prop} {f : Nat} {x : Int32} (hf : f < 6) (hx : x < 0 ∨ nI (fd_lim f) ≤ x) (h : post 0) : wpY_isTerm post (mo, ath, va, fl, fi, hi, mk) (nI f) x := by
  by_cases z : x < 0
  · exact br_t z h
  · have hx' := hx.resolve_left z
    refine br_f z ?_
    refine pk_eq f 3 (fun z => ?_) (fun z => ?_)
    · rw [fd_lim, if_pos z, fd_lt2 x (a := 7) (by decide) (by decide)] at hx'
      exact br_t hx' h
    · rw [fd_lim, if_neg z, fd_lt2 x (a := 9) (by decide) (by decide)] at hx'
      exact br_t hx' h
theorem fy_isNum {post : Int32 → Prop} {f b : Nat} (hf : fd_fb f b) (h : post 1) : wpY_isNumberField post (mo, ath, va, fl, fi, hi, mk) (nI f) := by
  rcases hf with ⟨rfl, _⟩ | ⟨rfl, _⟩
  · exact br_t (by decide) h
  · exact br_f (by decide) (br_t (by decide) h)
theorem fy_isNum0 {post : Int32 → Prop} {x : Int32} (h4 : ¬ x = 4) (h5 : ¬ x = 5) (h : post 0) : wpY_isNumberField post (mo, ath, va, fl, fi, hi, mk) x :=
  br_f h4 (br_f h5 h)
theorem fy_isGroup {post : Int32 → Prop} {f : Nat} (hf : f < 4) (h : post 1) : wpY_isGroupField post (mo, ath, va, fl, fi, hi, mk) (nI f) :=
  br_f (nI_pos (by omega)) (br_f (nI_nlt (a := 3) (by omega) (by decide)) h)
theorem fy_isGroup0 {post : Int32 → Prop} {x : Int32} (hf : x < 0 ∨ nI 4 ≤ x) (h : post 0) : wpY_isGroupField post (mo, ath, va, fl, fi, hi, mk) x := by
  by_cases z : x < 0
  · exact br_t z h
  · exact br_f z (br_t ((fd_lt2 x (a := 3) (by decide) (by decide)).mp (hf.resolve_left z)) h)
theorem fy_doc {post : Int32 → Prop} {d : Nat} (hY : ∀ d, d < 48 → ath d = fd_b2i (T d)) (hd : d < 48) (hT : T d = true) (h : post 1) : wpY_isDocument post (mo, ath, va, fl, fi, hi, mk) (nI d) := by
  refine br_f (nI_pos (by omega)) (br_f (nI_nlt (a := 47) (by omega) (by decide)) ⟨vp_in_nI hd (by decide), ?_⟩)
  rw [nI_clamp (by omega), hY d hd, hT]
  exact br_f (by decide) h
theorem fy_doc0 {post : Int32 → Prop} {x : Int32} (hY : ∀ d, d < 48 → ath d = fd_b2i (T d)) (hx : fd_ND T x) (h : post 0) : wpY_isDocument post (mo, ath, va, fl, fi, hi, mk) x := by
  by_cases z : x < 0
  · exact br_t z h
  · refine br_f z ?_
    rcases hx with c | c | ⟨d, hd, rfl, hT⟩
    · exact absurd c z
    · exact br_t ((fd_lt2 x (a := 47) (by decide) (by decide)).mp c) h
    · refine br_f (nI_nlt (a := 47) (by omega) (by decide)) ⟨vp_in_nI hd (by decide), ?_⟩
      rw [nI_clamp (by omega), hY d hd, hT]
      exact br_t rfl h
end
end
section
/-! questions that count -/
def fd_FC (T : Nat → Bool) (fl fi se va : Nat → Int32) (f t : Nat) : Nat := fd_cnt (fun d => fd_M T fl fi se va (nI f) d && fd_hs va f t d) 48
theorem fd_Mh {T : Nat → Bool} {fl fi se va : Nat → Int32} {but : Int32} {e : Nat} {x : Bool} : (fd_M T fl fi se va but e && (T e && x)) = (fd_M T fl fi se va but e && x) := by
  unfold fd_M
  cases T e <;> simp
def fd_sum (Q : Nat → Bool) (w : Nat → Int32) : Nat → Int32
  | 0 => 0
  | n + 1 => if Q n = true then fd_sum Q w n + w n else fd_sum Q w n
def fd_fr (S : Nat → Bool) (va : Nat → Int32) (f d e : Nat) : Bool := !(S e && decide (va (6 * e + f) = va (6 * d + f)))
theorem fd_all_m {P : Nat → Bool} : ∀ k n, n ≤ k → fd_all P n = false → fd_all P k = false := by
  intro k
  induction k with
  | zero => intro n h e; have : n = 0 := by omega
            subst this; exact e
  | succ k ih =>
    intro n h e
    by_cases z : n = k + 1
    · subst z; exact e
    · show (fd_all P k && P k) = false
      rw [ih n (by omega) e]; rfl
def fd_Zp (M : Nat → Bool) (va : Nat → Int32) (f o p d : Nat) : Bool := fd_any (fun e => M e && decide (10 * va (6 * e + f) + va (6 * e + o) = nI p)) d
theorem fd_l0 (x : Int64) : x = 0 ↔ ∀ e, e < 64 → fd_bl x e = false := by
  constructor
  · intro h e _; rw [h]; exact fd_bl0 e
  · intro h
    apply wb_inj
    apply BitVec.eq_of_getLsbD_eq
    intro i hi
    exact (h i hi).trans (fd_bl0 i).symm
section
variable {th : Int64} {mn : Nat} {wt wg : Nat → Int64} {va od fl fi se : Nat → Int32} {pa : Nat → Int64}
theorem fx_facet {post : Int32 → Prop} {f t : Nat} (hf : f < 4) (ht : t < fd_lim f) (hC : fd_Cor th mn wt wg va od) (hP : ∀ f, f < 6 → fd_Pas th va fl fi se pa f)
    (h : post (nI (fd_FC (fd_bl th) fl fi se va f t))) : wpX_facet post (th, nI mn, wt, wg, va, od, fl, fi, se, pa) (nI f) (nI t) := by
  unfold wpX_facet
  dsimp only
  refine fx_isGroup hf ?_
  refine br_f (by decide) ?_
  refine fx_isTermOf hf ht ?_
  refine br_f (by decide) ?_
  refine fx_beside hP ?_
  intro s hs
  refine fx_holders hf ht ?_
  refine nm_e ?_
  refine fx_ones (Q := fun d => fd_M (fd_bl th) fl fi se va (nI f) d && fd_hs va f t d) ?_ ?_ h
  · intro e
    rw [fd_bla, hs e, hC.2.2.1 f hf t ht e]
    exact fd_Mh
  · intro j hj
    show (fd_M _ _ _ _ _ _ j && _) = false
    rw [fd_M48 hC.1 j hj]; rfl
theorem fx_between {post : Int32 → Prop} {f b : Nat} {x y : Int32} (hf : fd_fb f b) (hO : fd_Ord f b (fd_bl th) od mn va) (h48 : ∀ e, 48 ≤ e → fd_bl th e = false) (hP : ∀ f, f < 6 → fd_Pas th va fl fi se pa f)
    (h : post (nI (fd_cnt (fun d => fd_M (fd_bl th) fl fi se va (nI f) d && (decide (x ≤ va (6 * d + f)) && decide (va (6 * d + f) ≤ y))) 48))) : wpX_between post (th, nI mn, wt, wg, va, od, fl, fi, se, pa) (nI f) x y := by
  unfold wpX_between
  dsimp only
  refine fx_isNum hf ?_
  refine br_f (by decide) ?_
  refine fx_beside hP ?_
  intro s hs
  refine fx_stretch hf hO ?_
  intro w hw
  refine nm_e ?_
  refine fx_ones (Q := fun d => fd_M (fd_bl th) fl fi se va (nI f) d && (decide (x ≤ va (6 * d + f)) && decide (va (6 * d + f) ≤ y))) ?_ ?_ h
  · intro e
    rw [fd_bla, hs e, hw e]
    exact fd_Mh
  · intro j hj
    show (fd_M _ _ _ _ _ _ j && _) = false
    rw [fd_M48 h48 j hj]; rfl
theorem fx_bounded {post : Int32 → Prop} {n : Int64} (h : ∀ r : Int32, (n.toInt < -2000 → r.toInt = -2000) → (2000 < n.toInt → r.toInt = 2000) → (-2000 ≤ n.toInt → n.toInt ≤ 2000 → r.toInt = n.toInt) → post r) : wpX_bounded post n := by
  have e1 : (-2000 : Int64).toInt = -2000 := by decide
  have e2 : (2000 : Int64).toInt = 2000 := by decide
  refine br_c (fun c => br_c (fun c2 => ?_) (fun c2 => ?_)) (fun c => ?_)
  · rw [Int64.le_iff_toInt_le, e1] at c
    rw [Int64.le_iff_toInt_le, e2] at c2
    refine h _ (fun z => by omega) (fun z => by omega) (fun _ _ => ?_)
    rw [Int64.toInt_toInt32]
    exact Int.bmod_eq_of_le (by omega) (by omega)
  · rw [Int64.le_iff_toInt_le, e1] at c
    rw [Int64.le_iff_toInt_le, e2] at c2
    exact h _ (fun z => by omega) (fun z => by decide) (fun _ _ => by omega)
  · rw [Int64.le_iff_toInt_le, e1] at c
    exact h _ (fun z => by decide) (fun z => by omega) (fun _ _ => by omega)
theorem fd_box {p1 p2 : Int32} (h1 : 1 ≤ p1.toInt) (h2 : p1.toInt ≤ 999) :
    (p2.toInt64 * p1.toInt64).toInt = p2.toInt * p1.toInt ∧ ((p2.toInt64 * p1.toInt64 + p1.toInt64) - 1).toInt = p2.toInt * p1.toInt + p1.toInt - 1 ∧ ((p2.toInt64 + 1) * p1.toInt64).toInt = p2.toInt * p1.toInt + p1.toInt := by
  have b1 := p2.le_toInt
  have b2 := p2.toInt_lt
  have c1 : p2.toInt * p1.toInt ≤ 2147483648 * p1.toInt := Int.mul_le_mul_of_nonneg_right (by omega) (by omega)
  have c2 : -2147483648 * p1.toInt ≤ p2.toInt * p1.toInt := Int.mul_le_mul_of_nonneg_right (by omega) (by omega)
  have m : (p2.toInt64 * p1.toInt64).toInt = p2.toInt * p1.toInt := by
    rw [Int64.toInt_mul, Int32.toInt_toInt64, Int32.toInt_toInt64]
    exact Int.bmod_eq_of_le (by omega) (by omega)
  have o1 : (1 : Int64).toInt = 1 := by decide
  generalize hPe : p2.toInt * p1.toInt = P at *
  refine ⟨m, ?_, ?_⟩
  · have a : (p2.toInt64 * p1.toInt64 + p1.toInt64).toInt = P + p1.toInt := by
      rw [Int64.toInt_add, m, Int32.toInt_toInt64]
      exact Int.bmod_eq_of_le (by omega) (by omega)
    rw [Int64.toInt_sub, a, o1]
    exact Int.bmod_eq_of_le (by omega) (by omega)
  · have a : (p2.toInt64 + 1).toInt = p2.toInt + 1 := by
      rw [Int64.toInt_add, Int32.toInt_toInt64, o1]
      exact Int.bmod_eq_of_le (by omega) (by omega)
    rw [Int64.toInt_mul, a, Int32.toInt_toInt64, Int.add_mul, Int.one_mul, hPe]
    exact Int.bmod_eq_of_le (by omega) (by omega)
theorem fx_box {post : Int32 → Prop} {f b : Nat} {x y : Int32} (hf : fd_fb f b) (hO : fd_Ord f b (fd_bl th) od mn va) (h48 : ∀ e, 48 ≤ e → fd_bl th e = false) (hV : fd_VR va) (hP : ∀ f, f < 6 → fd_Pas th va fl fi se pa f)
    (h1 : 1 ≤ x.toInt) (h2 : x.toInt ≤ 999)
    (h : post (nI (fd_cnt (fun d => fd_M (fd_bl th) fl fi se va (-1) d && (decide (y.toInt * x.toInt ≤ (va (6 * d + f)).toInt) && decide ((va (6 * d + f)).toInt < y.toInt * x.toInt + x.toInt))) 48))) : wpX_box post (th, nI mn, wt, wg, va, od, fl, fi, se, pa) (nI f) x y := by
  have o1 : (1 : Int32).toInt = 1 := by decide
  have o9 : (999 : Int32).toInt = 999 := by decide
  obtain ⟨m1, m2, _⟩ := fd_box (p1 := x) (p2 := y) h1 h2
  unfold wpX_box
  dsimp only
  refine fx_isNum hf ?_
  refine br_f (by decide) ?_
  refine br_f (by rw [Int32.lt_iff_toInt_lt, o1]; omega) ?_
  refine br_t (by rw [Int32.le_iff_toInt_le, o9]; omega) ?_
  refine nm_e ?_
  refine fx_bounded ?_
  intro r a1 a2 a3
  refine fx_bounded ?_
  intro q c1 c2 c3
  refine fx_beside hP ?_
  intro s hs
  refine fx_stretch hf hO ?_
  intro w hw
  refine nm_e ?_
  refine fx_ones (Q := fun d => fd_M (fd_bl th) fl fi se va (-1) d && (decide (r ≤ va (6 * d + f)) && decide (va (6 * d + f) ≤ q))) ?_ ?_ ?_
  · intro e
    rw [fd_bla, hs e, hw e]
    exact fd_Mh
  · intro j hj
    show (fd_M _ _ _ _ _ _ j && _) = false
    rw [fd_M48 h48 j hj]; rfl
  · rw [m1] at a1 a2 a3
    rw [m2] at c1 c2 c3
    have e : fd_cnt (fun d => fd_M (fd_bl th) fl fi se va (-1) d && (decide (r ≤ va (6 * d + f)) && decide (va (6 * d + f) ≤ q))) 48 = fd_cnt (fun d => fd_M (fd_bl th) fl fi se va (-1) d && (decide (y.toInt * x.toInt ≤ (va (6 * d + f)).toInt) && decide ((va (6 * d + f)).toInt < y.toInt * x.toInt + x.toInt))) 48 := by
      apply fd_cnt_c
      intro d hd
      obtain ⟨v1, v2⟩ := (hV d hd f (fd_fb6 hf)).2.2 (by unfold fd_fb at hf; omega)
      have g1 : (r ≤ va (6 * d + f)) ↔ y.toInt * x.toInt ≤ (va (6 * d + f)).toInt := by
        rw [Int32.le_iff_toInt_le]
        generalize y.toInt * x.toInt = P at *
        omega
      have g2 : (va (6 * d + f) ≤ q) ↔ (va (6 * d + f)).toInt < y.toInt * x.toInt + x.toInt := by
        rw [Int32.le_iff_toInt_le]
        generalize y.toInt * x.toInt = P at *
        omega
      show (_ && (decide _ && decide _)) = (_ && (decide _ && decide _))
      rw [decide_eq_decide.mpr g1, decide_eq_decide.mpr g2]
    exact e ▸ h
theorem fx_sum_48 {post : Int32 → Prop} {f : Nat} {s : Int64} (hf : f < 6) (h : post (fd_sum (fd_bl s) (fun d => va (6 * d + f)) 48)) :
    ∀ n d, d ≤ 48 → 48 < n + d → wX_sum_48 post (nI f) s th (nI mn) wt wg va od fl fi se pa n (fd_sum (fd_bl s) (fun d => va (6 * d + f)) d) (nI d) := by
  intro n
  induction n with
  | zero => intro d h1 h2; omega
  | succ n ih =>
    intro d h1 h2
    refine pk_le 48 d (fun z => ?_) (fun z => ?_)
    · have : d = 48 := by omega
      subst this
      exact h
    · have I := ih (d + 1) z (by omega)
      unfold fd_sum at I
      refine fx_in s d (by omega) (fd_br _ (fun c => ?_) (fun c => ?_))
      · rw [if_neg (by rw [c]; decide)] at I
        exact nm_r (Int32.add_zero _) (nm_r (nI_1 d) I)
      · rw [if_pos c] at I
        exact ⟨fd_in6 z hf, nm_r (by rw [fd_cl6 z hf]) (nm_r (nI_1 d) I)⟩
theorem fx_sum {post : Int32 → Prop} {g t f b : Nat} (hg : g < 4) (ht : t < fd_lim g) (hf : fd_fb f b) (hC : fd_Cor th mn wt wg va od) (hP : ∀ f, f < 6 → fd_Pas th va fl fi se pa f)
    (h : post (fd_sum (fun d => fd_M (fd_bl th) fl fi se va (-1) d && fd_hs va g t d) (fun d => va (6 * d + f)) 48)) : wpX_sum post (th, nI mn, wt, wg, va, od, fl, fi, se, pa) (nI g) (nI t) (nI f) := by
  unfold wpX_sum
  dsimp only
  refine fx_isGroup hg ?_
  refine br_f (by decide) ?_
  refine fx_isNum hf ?_
  refine br_f (by decide) ?_
  refine fx_isTermOf hg ht ?_
  refine br_f (by decide) ?_
  refine fx_beside hP ?_
  intro s hs
  refine fx_holders hg ht ?_
  refine nm_e ?_
  refine ⟨49, fx_sum_48 (fd_fb6 hf) ?_ 49 0 (by omega) (by omega)⟩
  have e : fd_bl (s &&& fd_hold wt wg g t) = fun d => fd_M (fd_bl th) fl fi se va (-1) d && fd_hs va g t d := by
    funext e
    rw [fd_bla, hs e, hC.2.2.1 g hg t ht e]
    exact fd_Mh
  rw [e]
  exact h
theorem fx_isFresh_17 {post : Int32 → Prop} {s : Int64} {f d : Nat} (hf : f < 6) (hd : d < 48) (h : post (fd_b2i (fd_all (fd_fr (fd_bl s) va f d) d))) :
    ∀ n e, e ≤ d → d < n + e → fd_all (fd_fr (fd_bl s) va f d) e = true → wX_isFresh_17 post s (nI f) (nI d) (va (6 * d + f)) th (nI mn) wt wg va od fl fi se pa n (nI e) := by
  intro n
  induction n with
  | zero => intro e h1 h2; omega
  | succ n ih =>
    intro e h1 h2 h3
    refine pk_le d e (fun z => ?_) (fun z => ?_)
    · have : e = d := by omega
      subst this
      rw [h3] at h
      exact h
    · have I := ih (e + 1) z (by omega)
      have E : fd_all (fd_fr (fd_bl s) va f d) (e + 1) = (true && !(fd_bl s e && decide (va (6 * e + f) = va (6 * d + f)))) := by
        show (fd_all (fd_fr (fd_bl s) va f d) e && _) = _
        rw [h3]; rfl
      rw [E] at I
      refine fx_in s e (by omega) (fd_br _ (fun c => ?_) (fun c => ?_))
      · rw [c] at I
        exact nm_r (nI_1 e) (I rfl)
      · rw [c] at I E
        refine ⟨fd_in6 (by omega) hf, ?_⟩
        rw [fd_cl6 (by omega) hf]
        refine br_c (fun w => ?_) (fun w => ?_)
        · rw [decide_eq_true w] at E
          rw [fd_all_m d (e + 1) z E] at h
          exact h
        · rw [decide_eq_false w] at I
          exact nm_r (nI_1 e) (I rfl)
theorem fx_isFresh {post : Int32 → Prop} {s : Int64} {f d : Nat} (hf : f < 6) (hd : d < 48) (h : post (fd_b2i (fd_all (fd_fr (fd_bl s) va f d) d))) :
    wpX_isFresh post (th, nI mn, wt, wg, va, od, fl, fi, se, pa) s (nI f) (nI d) :=
  ⟨fd_in6 hd hf, nm_r (e' := va (6 * d + f)) (by rw [fd_cl6 hd hf]) ⟨d + 1, fx_isFresh_17 hf hd h (d + 1) 0 (by omega) (by omega) rfl⟩⟩
theorem fx_different_22 {post : Int32 → Prop} {s : Int64} {f : Nat} (hf : f < 6) (h : post (nI (fd_cnt (fun d => fd_bl s d && fd_all (fd_fr (fd_bl s) va f d) d) 48))) :
    ∀ n d, d ≤ 48 → 48 < n + d → wX_different_22 post (nI f) s th (nI mn) wt wg va od fl fi se pa n (nI (fd_cnt (fun d => fd_bl s d && fd_all (fd_fr (fd_bl s) va f d) d) d)) (nI d) := by
  intro n
  induction n with
  | zero => intro d h1 h2; omega
  | succ n ih =>
    intro d h1 h2
    refine pk_le 48 d (fun z => ?_) (fun z => ?_)
    · have : d = 48 := by omega
      subst this
      exact h
    · have I := ih (d + 1) z (by omega)
      refine fx_in s d (by omega) (fd_br _ (fun c => ?_) (fun c => ?_))
      · rw [fd_cnt_f (by rw [c]; rfl)] at I
        exact nm_r (nI_1 d) I
      · refine fx_isFresh hf z (fd_br _ (fun c2 => ?_) (fun c2 => ?_))
        · rw [fd_cnt_f (by rw [c, c2]; rfl)] at I
          exact nm_r (Int32.add_zero _) (nm_r (nI_1 d) I)
        · rw [fd_cnt_t (by rw [c, c2]; rfl)] at I
          exact nm_r (nI_1 _) (nm_r (nI_1 d) I)
theorem fx_different {post : Int32 → Prop} {f : Nat} (hf : f < 6) (hP : ∀ f, f < 6 → fd_Pas th va fl fi se pa f)
    (h : post (nI (fd_cnt (fun d => fd_M (fd_bl th) fl fi se va (-1) d && fd_all (fd_fr (fd_M (fd_bl th) fl fi se va (-1)) va f d) d) 48))) : wpX_different post (th, nI mn, wt, wg, va, od, fl, fi, se, pa) (nI f) := by
  unfold wpX_different
  dsimp only
  refine fx_isField hf ?_
  refine br_f (by decide) ?_
  refine fx_beside hP ?_
  intro s hs
  refine ⟨49, fx_different_22 hf ?_ 49 0 (by omega) (by omega)⟩
  rw [show fd_bl s = fd_M (fd_bl th) fl fi se va (-1) from funext hs]
  exact h
theorem fx_pairs_55 {post : Int32 → Prop} {J : Int32 → Int32 → Prop} {f o a : Nat} {s x7 : Int64} {Z : Nat → Bool} (ho : o < 3) (ha : a < 10)
    (hZ : ∀ b, b < 10 → ((x7 &&& wt (10 * o + b)) = 0 ↔ Z (10 * a + b) = false))
    (h : J (nI (fd_cnt Z (10 * (a + 1)))) (nI (a + 1))) :
    ∀ n b, b ≤ 10 → 10 < n + b → wX_pairs_55 post J (nI f) (nI o) s (nI a) x7 th (nI mn) wt wg va od fl fi se pa n (nI (fd_cnt Z (10 * a + b))) (nI b) := by
  intro n
  induction n with
  | zero => intro b h1 h2; omega
  | succ n ih =>
    intro b h1 h2
    refine pk_le 10 b (fun z => ?_) (fun z => ?_)
    · have : b = 10 := by omega
      subst this
      exact nm_r (nI_1 a) h
    · have I := ih (b + 1) z (by omega)
      refine ⟨fd_in10 ho z, ?_⟩
      rw [fd_cl10 ho z]
      refine br_c (fun c => ?_) (fun c => ?_)
      · rw [← Nat.add_assoc, fd_cnt_f ((hZ b z).mp c)] at I
        exact nm_r (Int32.add_zero _) (nm_r (nI_1 b) I)
      · have c2 : Z (10 * a + b) = true := ts_nf (fun y => c ((hZ b z).mpr y))
        rw [← Nat.add_assoc, fd_cnt_t c2] at I
        exact nm_r (nI_1 _) (nm_r (nI_1 b) I)
theorem fx_pairs_29 {post : Int32 → Prop} {f o : Nat} {s : Int64} {Z : Nat → Bool} (hf : f < 3) (ho : o < 3)
    (hZ : ∀ a b, a < 10 → b < 10 → (((s &&& wt (10 * f + a)) &&& wt (10 * o + b)) = 0 ↔ Z (10 * a + b) = false))
    (h : post (nI (fd_cnt Z 100))) :
    ∀ n a, a ≤ 10 → 10 < n + a → wX_pairs_29 post (nI f) (nI o) s th (nI mn) wt wg va od fl fi se pa n (nI (fd_cnt Z (10 * a))) (nI a) := by
  intro n
  induction n with
  | zero => intro b h1 h2; omega
  | succ n ih =>
    intro a h1 h2
    refine pk_le 10 a (fun z => ?_) (fun z => ?_)
    · have : a = 10 := by omega
      subst this
      exact h
    · refine ⟨fd_in10 hf z, nm_r (e' := s &&& wt (10 * f + a)) (by rw [fd_cl10 hf z]) ⟨11, fx_pairs_55 ho z (fun b hb => hZ a b z hb) (ih (a + 1) z (by omega)) 11 0 (by omega) (by omega)⟩⟩
theorem fx_pairs {post : Int32 → Prop} {f o : Nat} (hf : f < 3) (ho : o < 3) (hC : fd_Cor th mn wt wg va od) (hP : ∀ f, f < 6 → fd_Pas th va fl fi se pa f)
    (h : post (nI (fd_cnt (fun p => fd_Zp (fd_M (fd_bl th) fl fi se va (-1)) va f o p 48) 100))) : wpX_pairs post (th, nI mn, wt, wg, va, od, fl, fi, se, pa) (nI f) (nI o) := by
  unfold wpX_pairs
  dsimp only
  refine fx_isTermField hf ?_
  refine br_f (by decide) ?_
  refine fx_isTermField ho ?_
  refine br_f (by decide) ?_
  refine fx_beside hP ?_
  intro s hs
  refine ⟨11, fx_pairs_29 hf ho ?_ h 11 0 (by omega) (by omega)⟩
  obtain ⟨h48, _, hG, _, _, hV⟩ := hC
  have hg : ∀ k, k < 3 → ∀ t, t < 10 → ∀ e, fd_bl (wt (10 * k + t)) e = (fd_bl th e && decide (va (6 * e + k) = nI t)) := by
    intro k hk t ht e
    have a := hG k (by omega) t (by rw [fd_lim, if_neg (by omega)]; exact ht) e
    unfold fd_hold fd_hs fd_vh at a
    rw [if_neg (by omega), if_neg (by omega)] at a
    exact a
  have hM : ∀ e, fd_M (fd_bl th) fl fi se va (-1) e = true → fd_bl th e = true ∧ e < 48 := by
    intro e he
    have h1 : fd_bl th e = true := by
      unfold fd_M at he
      rw [Bool.and_eq_true] at he
      exact he.1
    refine ⟨h1, ?_⟩
    rcases Nat.lt_or_ge e 48 with z | z
    · exact z
    · rw [h48 e z] at h1; exact absurd h1 (by decide)
  intro a b ha hb
  have K : ∀ e, e < 48 → (10 * va (6 * e + f) + va (6 * e + o) = nI (10 * a + b) ↔ va (6 * e + f) = nI a ∧ va (6 * e + o) = nI b) := by
    intro e he
    obtain ⟨a', ha', ea⟩ := (hV e he f (by omega)).1 hf
    obtain ⟨b', hb', eb⟩ := (hV e he o (by omega)).1 ho
    rw [ea, eb, fd_n10, nI_eq (by omega) (by omega), nI_eq (by omega) (by omega), nI_eq (by omega) (by omega)]
    omega
  rw [fd_l0]
  constructor
  · intro z
    apply ts_nt
    intro y
    obtain ⟨e, he, c⟩ := (fd_any_i 48).mp y
    rw [Bool.and_eq_true, decide_eq_true_iff, K e he] at c
    have := z e (by omega)
    rw [fd_bla, fd_bla, hs e, hg f hf a ha, hg o ho b hb, c.1, (hM e c.1).1, c.2.1, c.2.2, decide_eq_true rfl, decide_eq_true rfl] at this
    exact absurd this (by decide)
  · intro z e _
    apply ts_nt
    intro y
    rw [fd_bla, fd_bla, hs e, hg f hf a ha, hg o ho b hb, Bool.and_eq_true, Bool.and_eq_true, Bool.and_eq_true, Bool.and_eq_true, decide_eq_true_iff, decide_eq_true_iff] at y
    obtain ⟨⟨y1, _, y2⟩, _, y3⟩ := y
    have he := (hM e y1).2
    have : fd_Zp (fd_M (fd_bl th) fl fi se va (-1)) va f o (10 * a + b) 48 = true := by
      refine (fd_any_i 48).mpr ⟨e, he, ?_⟩
      rw [Bool.and_eq_true, decide_eq_true_iff, K e he]
      exact ⟨y1, y2, y3⟩
    rw [z] at this
    exact absurd this (by decide)
end
end
section
/-! the reference's questions that count -/
section
variable {T : Nat → Bool} {mo : Int32} {ath va fl fi hi mk se : Nat → Int32}
theorem fy_facetOf_5 {post : Int32 → Prop} {f t : Nat} (hf : f < 6) (ht : t < 10) (hY : fd_YR T mo ath hi se) (h : post (nI (fd_FC T fl fi se va f t))) :
    ∀ n d, d ≤ 48 → 48 < n + d → wY_facetOf_5 post (nI f) (nI t) mo ath va fl fi hi mk n (nI (fd_cnt (fun d => fd_M T fl fi se va (nI f) d && fd_hs va f t d) d)) (nI d) := by
  intro n
  induction n with
  | zero => intro d h1 h2; omega
  | succ n ih =>
    intro d h1 h2
    refine pk_le 48 d (fun z => ?_) (fun z => ?_)
    · have : d = 48 := by omega
      subst this
      exact h
    · have I := ih (d + 1) z (by omega)
      refine fy_matches z hY (fd_br _ (fun c => ?_) (fun c => ?_))
      · rw [fd_cnt_f (by rw [c]; rfl)] at I
        exact nm_r (nI_1 d) I
      · refine fy_has z hf ht (fd_br _ (fun c2 => ?_) (fun c2 => ?_))
        · rw [fd_cnt_f (by rw [c, c2]; rfl)] at I
          exact nm_r (nI_1 d) I
        · rw [fd_cnt_t (by rw [c, c2]; rfl)] at I
          exact nm_r (nI_1 _) (nm_r (nI_1 d) I)
theorem fy_facetOf {post : Int32 → Prop} {f t : Nat} (hf : f < 6) (ht : t < 10) (hY : fd_YR T mo ath hi se) (h : post (nI (fd_FC T fl fi se va f t))) : wpY_facetOf post (mo, ath, va, fl, fi, hi, mk) (nI f) (nI t) :=
  ⟨49, fy_facetOf_5 hf ht hY h 49 0 (by omega) (by omega)⟩
theorem fd_lim10 {f t : Nat} (h : t < fd_lim f) : t < 10 := by unfold fd_lim at h; split at h <;> omega
theorem fy_between_17 {post : Int32 → Prop} {f : Nat} {x y : Int32} (hf : f < 6) (hY : fd_YR T mo ath hi se)
    (h : post (nI (fd_cnt (fun d => fd_M T fl fi se va (nI f) d && (decide (x ≤ va (6 * d + f)) && decide (va (6 * d + f) ≤ y))) 48))) :
    ∀ n d, d ≤ 48 → 48 < n + d → wY_between_17 post (nI f) x y mo ath va fl fi hi mk n (nI (fd_cnt (fun d => fd_M T fl fi se va (nI f) d && (decide (x ≤ va (6 * d + f)) && decide (va (6 * d + f) ≤ y))) d)) (nI d) := by
  intro n
  induction n with
  | zero => intro d h1 h2; omega
  | succ n ih =>
    intro d h1 h2
    refine pk_le 48 d (fun z => ?_) (fun z => ?_)
    · have : d = 48 := by omega
      subst this
      exact h
    · have I := ih (d + 1) z (by omega)
      refine ⟨fd_in6 z hf, nm_r (e' := va (6 * d + f)) (by rw [fd_cl6 z hf]) (fy_matches z hY (fd_br _ (fun c => ?_) (fun c => ?_)))⟩
      · rw [fd_cnt_f (by rw [c]; rfl)] at I
        exact nm_r (nI_1 d) I
      · refine br_c (fun w => ?_) (fun w => br_c (fun w2 => ?_) (fun w2 => ?_))
        · rw [fd_cnt_f (by rw [c, decide_eq_false (Int32.not_le.mpr w)]; rfl)] at I
          exact nm_r (nI_1 d) I
        · rw [fd_cnt_f (by rw [c, decide_eq_false (Int32.not_le.mpr w2), Bool.and_false]; rfl)] at I
          exact nm_r (nI_1 d) I
        · rw [fd_cnt_t (by rw [c, decide_eq_true (Int32.not_lt.mp w), decide_eq_true (Int32.not_lt.mp w2)]; rfl)] at I
          exact nm_r (nI_1 _) (nm_r (nI_1 d) I)
theorem fy_box_32 {post : Int32 → Prop} {f : Nat} {x y : Int32} (hf : f < 6) (hY : fd_YR T mo ath hi se) (h1' : 1 ≤ x.toInt) (h2' : x.toInt ≤ 999)
    (h : post (nI (fd_cnt (fun d => fd_M T fl fi se va (-1) d && (decide (y.toInt * x.toInt ≤ (va (6 * d + f)).toInt) && decide ((va (6 * d + f)).toInt < y.toInt * x.toInt + x.toInt))) 48))) :
    ∀ n d, d ≤ 48 → 48 < n + d → wY_box_32 post (nI f) x y mo ath va fl fi hi mk n (nI (fd_cnt (fun d => fd_M T fl fi se va (-1) d && (decide (y.toInt * x.toInt ≤ (va (6 * d + f)).toInt) && decide ((va (6 * d + f)).toInt < y.toInt * x.toInt + x.toInt))) d)) (nI d) := by
  obtain ⟨m1, _, m3⟩ := fd_box (p1 := x) (p2 := y) h1' h2'
  intro n
  induction n with
  | zero => intro d h1 h2; omega
  | succ n ih =>
    intro d h1 h2
    refine pk_le 48 d (fun z => ?_) (fun z => ?_)
    · have : d = 48 := by omega
      subst this
      exact h
    · have I := ih (d + 1) z (by omega)
      have k1 : (va (6 * d + f)).toInt64 < y.toInt64 * x.toInt64 ↔ ¬ y.toInt * x.toInt ≤ (va (6 * d + f)).toInt := by
        rw [Int64.lt_iff_toInt_lt, m1, Int32.toInt_toInt64]; exact Int.not_le.symm
      have k2 : (y.toInt64 + 1) * x.toInt64 ≤ (va (6 * d + f)).toInt64 ↔ ¬ (va (6 * d + f)).toInt < y.toInt * x.toInt + x.toInt := by
        rw [Int64.le_iff_toInt_le, m3, Int32.toInt_toInt64]; exact Int.not_lt.symm
      refine ⟨fd_in6 z hf, nm_r (e' := (va (6 * d + f)).toInt64) (by rw [fd_cl6 z hf]) (br_c (fun w => ?_) (fun w => br_c (fun w2 => ?_) (fun w2 => ?_)))⟩
      · rw [k1] at w
        refine fy_matches z hY (fd_br _ (fun c => ?_) (fun c => ?_))
        · rw [fd_cnt_f (by rw [c]; rfl)] at I
          exact nm_r (nI_1 d) I
        · rw [fd_cnt_f (by rw [c, decide_eq_false w]; rfl)] at I
          exact br_t rfl (nm_r (nI_1 d) I)
      · rw [k1] at w
        rw [k2] at w2
        refine fy_matches z hY (fd_br _ (fun c => ?_) (fun c => ?_))
        · rw [fd_cnt_f (by rw [c]; rfl)] at I
          exact nm_r (nI_1 d) I
        · rw [fd_cnt_f (by rw [c, decide_eq_false w2, Bool.and_false]; rfl)] at I
          exact br_t rfl (nm_r (nI_1 d) I)
      · rw [k1] at w
        rw [k2] at w2
        refine fy_matches z hY (fd_br _ (fun c => ?_) (fun c => ?_))
        · rw [fd_cnt_f (by rw [c]; rfl)] at I
          exact nm_r (nI_1 d) I
        · rw [fd_cnt_t (by rw [c, decide_eq_true (Classical.not_not.mp w), decide_eq_true (Classical.not_not.mp w2)]; rfl)] at I
          exact br_f (by decide) (nm_r (nI_1 _) (nm_r (nI_1 d) I))
theorem fy_sum_37 {post : Int32 → Prop} {g t f : Nat} (hg : g < 6) (ht : t < 10) (hf : f < 6) (hY : fd_YR T mo ath hi se)
    (h : post (fd_sum (fun d => fd_M T fl fi se va (-1) d && fd_hs va g t d) (fun d => va (6 * d + f)) 48)) :
    ∀ n d, d ≤ 48 → 48 < n + d → wY_sum_37 post (nI g) (nI t) (nI f) mo ath va fl fi hi mk n (fd_sum (fun d => fd_M T fl fi se va (-1) d && fd_hs va g t d) (fun d => va (6 * d + f)) d) (nI d) := by
  intro n
  induction n with
  | zero => intro d h1 h2; omega
  | succ n ih =>
    intro d h1 h2
    refine pk_le 48 d (fun z => ?_) (fun z => ?_)
    · have : d = 48 := by omega
      subst this
      exact h
    · have I := ih (d + 1) z (by omega)
      unfold fd_sum at I
      refine fy_matches z hY (fd_br _ (fun c => ?_) (fun c => ?_))
      · rw [if_neg (by rw [c]; exact Bool.false_ne_true)] at I
        exact nm_r (nI_1 d) I
      · refine fy_has z hg ht (fd_br _ (fun c2 => ?_) (fun c2 => ?_))
        · rw [if_neg (by rw [c, c2]; decide)] at I
          exact nm_r (nI_1 d) I
        · rw [if_pos (by rw [c, c2]; rfl)] at I
          exact ⟨fd_in6 z hf, nm_r (by rw [fd_cl6 z hf]) (nm_r (nI_1 d) I)⟩
theorem fy_different_93 {post : Int32 → Prop} {J : Int32 → Int32 → Prop} {f d : Nat} {c : Nat} {x : Bool} (h0 : x = false → J (nI c) (nI (d + 1))) (h1 : x = true → J (nI (c + 1)) (nI (d + 1))) :
    wY_different_93 post J (nI f) (nI c) (nI d) (fd_b2i x) mo ath va fl fi hi mk := by
  unfold wY_different_93
  refine fd_br x (fun e => nm_r (nI_1 d) (h0 e)) (fun e => nm_r (nI_1 c) (nm_r (nI_1 d) (h1 e)))
theorem fy_different_33 {post : Int32 → Prop} {J : Int32 → Int32 → Prop} {f d c : Nat} (hf : f < 6) (hd : d < 48) (hY : fd_YR T mo ath hi se)
    (h0 : (fd_M T fl fi se va (-1) d && fd_all (fd_fr (fd_M T fl fi se va (-1)) va f d) d) = false → J (nI c) (nI (d + 1)))
    (h1 : (fd_M T fl fi se va (-1) d && fd_all (fd_fr (fd_M T fl fi se va (-1)) va f d) d) = true → J (nI (c + 1)) (nI (d + 1))) :
    ∀ n e, e ≤ d → d < n + e → wY_different_33 post J (nI f) (nI c) (nI d) mo ath va fl fi hi mk n (fd_b2i (fd_M T fl fi se va (-1) d && fd_all (fd_fr (fd_M T fl fi se va (-1)) va f d) e)) (nI e) := by
  intro n
  induction n with
  | zero => intro e g1 g2; omega
  | succ n ih =>
    intro e g1 g2
    refine pk_le d e (fun z => ?_) (fun z => ?_)
    · have : e = d := by omega
      subst this
      exact fy_different_93 h0 h1
    · have I := ih (e + 1) z (by omega)
      have N : (fd_M T fl fi se va (-1) d && fd_all (fd_fr (fd_M T fl fi se va (-1)) va f d) (e + 1)) = ((fd_M T fl fi se va (-1) d && fd_all (fd_fr (fd_M T fl fi se va (-1)) va f d) e) && !(fd_M T fl fi se va (-1) e && decide (va (6 * e + f) = va (6 * d + f)))) := by
        rw [Bool.and_assoc]; rfl
      rw [N] at I
      refine fd_br _ (fun c => ?_) (fun c => ?_)
      · refine fy_different_93 (fun _ => h0 ?_) (fun c2 => ?_)
        · rw [Bool.and_eq_false_iff] at c ⊢
          exact c.imp id (fd_all_m d e (by omega))
        · rw [c] at c2; exact absurd c2 (by decide)
      · rw [c] at I
        refine fy_matches (by omega) hY (fd_br _ (fun c2 => ?_) (fun c2 => ?_))
        · rw [c2] at I
          exact nm_r (nI_1 e) I
        · rw [c2] at I
          refine ⟨fd_in6 (by omega) hf, fd_in6 hd hf, ?_⟩
          rw [fd_cl6 (by omega) hf, fd_cl6 hd hf]
          refine br_c (fun w => ?_) (fun w => ?_)
          · rw [decide_eq_true w] at I
            exact nm_r (nI_1 e) I
          · rw [decide_eq_false w] at I
            exact nm_r (nI_1 e) I
theorem fy_different_16 {post : Int32 → Prop} {f : Nat} (hf : f < 6) (hY : fd_YR T mo ath hi se)
    (h : post (nI (fd_cnt (fun d => fd_M T fl fi se va (-1) d && fd_all (fd_fr (fd_M T fl fi se va (-1)) va f d) d) 48))) :
    ∀ n d, d ≤ 48 → 48 < n + d → wY_different_16 post (nI f) mo ath va fl fi hi mk n (nI (fd_cnt (fun d => fd_M T fl fi se va (-1) d && fd_all (fd_fr (fd_M T fl fi se va (-1)) va f d) d) d)) (nI d) := by
  intro n
  induction n with
  | zero => intro d h1 h2; omega
  | succ n ih =>
    intro d h1 h2
    refine pk_le 48 d (fun z => ?_) (fun z => ?_)
    · have : d = 48 := by omega
      subst this
      exact h
    · have I := ih (d + 1) z (by omega)
      refine fy_matches z hY ?_
      have R := fy_different_33 (post := post) (J := wY_different_16 post (nI f) mo ath va fl fi hi mk n) (mk := mk) (c := fd_cnt (fun d => fd_M T fl fi se va (-1) d && fd_all (fd_fr (fd_M T fl fi se va (-1)) va f d) d) d) hf z hY
        (fun c => by rw [fd_cnt_f c] at I; exact I) (fun c => by rw [fd_cnt_t c] at I; exact I) (d + 1) 0 (by omega) (by omega)
      rw [show (fd_M T fl fi se va (-1) d && fd_all (fd_fr (fd_M T fl fi se va (-1)) va f d) 0) = fd_M T fl fi se va (-1) d from Bool.and_true _] at R
      exact ⟨d + 1, R⟩
theorem fy_pairs_102 {post : Int32 → SY → Prop} {Z : Nat → Bool} (hk : ∀ p, p < 100 → mk p = fd_b2i (Z p)) (h : post (nI (fd_cnt Z 100)) (mo, ath, va, fl, fi, hi, mk)) :
    ∀ n p, p ≤ 100 → 100 < n + p → wY_pairs_102 post mo ath va fl fi hi mk n (nI (fd_cnt Z p)) (nI p) := by
  intro n
  induction n with
  | zero => intro p h1 h2; omega
  | succ n ih =>
    intro p h1 h2
    refine pk_le 100 p (fun z => ?_) (fun z => ?_)
    · have : p = 100 := by omega
      subst this
      exact h
    · have I := ih (p + 1) z (by omega)
      refine ⟨vp_in_nI (by omega) (by decide), ?_⟩
      rw [nI_clamp (by omega), hk p z]
      refine fd_br _ (fun c => ?_) (fun c => ?_)
      · rw [fd_cnt_f c] at I
        exact nm_r (nI_1 p) I
      · rw [fd_cnt_t c] at I
        exact nm_r (nI_1 _) (nm_r (nI_1 p) I)
theorem fy_pairs_44 {post : Int32 → SY → Prop} {f o : Nat} (hf : f < 3) (ho : o < 3) (hV : fd_VR va) (hY : fd_YR T mo ath hi se)
    (h : ∀ w : Nat → Int32, post (nI (fd_cnt (fun p => fd_Zp (fd_M T fl fi se va (-1)) va f o p 48) 100)) (mo, ath, va, fl, fi, hi, w)) :
    ∀ n d (w : Nat → Int32), d ≤ 48 → 48 < n + d → (∀ p, p < 100 → w p = fd_b2i (fd_Zp (fd_M T fl fi se va (-1)) va f o p d)) → wY_pairs_44 post (nI f) (nI o) mo n (nI d) ath va fl fi hi w := by
  intro n
  induction n with
  | zero => intro p w h1 h2; omega
  | succ n ih =>
    intro d w h1 h2 hw
    refine pk_le 48 d (fun z => ?_) (fun z => ?_)
    · have : d = 48 := by omega
      subst this
      exact ⟨101, fy_pairs_102 hw (h w) 101 0 (by omega) (by omega)⟩
    · have N : ∀ p, fd_Zp (fd_M T fl fi se va (-1)) va f o p (d + 1) = (fd_Zp (fd_M T fl fi se va (-1)) va f o p d || (fd_M T fl fi se va (-1) d && decide (10 * va (6 * d + f) + va (6 * d + o) = nI p))) := fun p => rfl
      refine fy_matches z hY (fd_br _ (fun c => ?_) (fun c => ?_))
      · refine nm_r (nI_1 d) (ih (d + 1) w z (by omega) ?_)
        intro p hp
        rw [N p, c, hw p hp, Bool.false_and, Bool.or_false]
      · obtain ⟨a, ha, ea⟩ := (hV d z f (by omega)).1 hf
        obtain ⟨b, hb, eb⟩ := (hV d z o (by omega)).1 ho
        refine ⟨fd_in6 z (by omega), fd_in6 z (by omega), ?_⟩
        rw [fd_cl6 z (by omega), fd_cl6 z (by omega), ea, eb, fd_n10, nI_clamp (by omega)]
        refine ⟨vp_in_nI (by omega) (by decide), nm_e (nm_r (nI_1 d) (ih (d + 1) _ z (by omega) ?_))⟩
        intro p hp
        rw [N p, c, ea, eb, fd_n10, Bool.true_and]
        by_cases y : p = 10 * a + b
        · rw [y, pk_us, decide_eq_true rfl, Bool.or_true]; rfl
        · rw [pk_un y, hw p hp, decide_eq_false (fun y2 => y ((nI_eq (by omega) (by omega)).mp y2).symm), Bool.or_false]
theorem fy_pairs_23 {post : Int32 → SY → Prop} {f o : Nat} (hf : f < 3) (ho : o < 3) (hV : fd_VR va) (hY : fd_YR T mo ath hi se)
    (h : ∀ w : Nat → Int32, post (nI (fd_cnt (fun p => fd_Zp (fd_M T fl fi se va (-1)) va f o p 48) 100)) (mo, ath, va, fl, fi, hi, w)) :
    ∀ n q (w : Nat → Int32), q ≤ 100 → 100 < n + q → (∀ p, p < q → w p = 0) → wY_pairs_23 post (nI f) (nI o) mo n (nI q) ath va fl fi hi w := by
  intro n
  induction n with
  | zero => intro p w h1 h2; omega
  | succ n ih =>
    intro q w h1 h2 hw
    refine pk_le 100 q (fun z => ?_) (fun z => ?_)
    · have : q = 100 := by omega
      subst this
      exact ⟨49, fy_pairs_44 hf ho hV hY h 49 0 w (by omega) (by omega) hw⟩
    · refine ⟨vp_in_nI (by omega) (by decide), nm_r (e' := upd w q 0) (by rw [nI_clamp (by omega)]; rfl) (nm_r (nI_1 q) (ih (q + 1) _ z (by omega) ?_))⟩
      intro p hp
      by_cases y : p = q
      · rw [y]; exact pk_us
      · rw [pk_un y]; exact hw p (by omega)
end
end
section
/-! the k-th term -/
def fd_G (T : Nat → Bool) (fl fi se va : Nat → Int32) (f u : Nat) : Nat := if u < fd_lim f then fd_FC T fl fi se va f u else 0
def fd_R (G : Nat → Nat) (t u : Nat) : Bool := decide (G t < G u) || (decide (G u = G t) && decide (u < t))
def fd_Q (G : Nat → Nat) (k : Int32) (t : Nat) : Bool := decide (0 < G t) && decide (nI (fd_cnt (fd_R G t) 10) = k)
def fd_top (Q : Nat → Bool) : Nat → Nat → Int32
  | 0, _ => -6
  | m + 1, t => if Q t = true then nI t else fd_top Q m (t + 1)
theorem fd_G48 (T : Nat → Bool) (fl fi se va : Nat → Int32) (f u : Nat) : fd_G T fl fi se va f u ≤ 48 := by
  unfold fd_G
  split
  · exact fd_cnt_le _ _
  · omega
theorem fd_R_t {G : Nat → Nat} {t u : Nat} (h : G t < G u ∨ (G u = G t ∧ u < t)) : fd_R G t u = true := by
  unfold fd_R
  rw [Bool.or_eq_true, Bool.and_eq_true, decide_eq_true_iff, decide_eq_true_iff, decide_eq_true_iff]
  exact h
theorem fd_R_f {G : Nat → Nat} {t u : Nat} (h : ¬ (G t < G u ∨ (G u = G t ∧ u < t))) : fd_R G t u = false := by
  apply ts_nt
  intro c
  apply h
  unfold fd_R at c
  rw [Bool.or_eq_true, Bool.and_eq_true, decide_eq_true_iff, decide_eq_true_iff, decide_eq_true_iff] at c
  exact c
theorem fd_cnt_ext {P : Nat → Bool} {m : Nat} : ∀ j, (∀ u, m ≤ u → u < m + j → P u = false) → fd_cnt P (m + j) = fd_cnt P m := by
  intro j
  induction j with
  | zero => intro _; rfl
  | succ j ih =>
    intro h
    rw [← Nat.add_assoc, fd_cnt_f (h (m + j) (by omega) (by omega))]
    exact ih (fun u h1 h2 => h u h1 (by omega))
theorem fd_top_0 {Q : Nat → Bool} : ∀ j t, (∀ u, t ≤ u → u < t + j → Q u = false) → fd_top Q j t = -6 := by
  intro j
  induction j with
  | zero => intro t _; rfl
  | succ j ih =>
    intro t h
    show (if Q t = true then nI t else fd_top Q j (t + 1)) = -6
    rw [h t (by omega) (by omega), if_neg (by decide)]
    exact ih (t + 1) (fun u h1 h2 => h u (by omega) (by omega))
theorem fd_top_x {Q : Nat → Bool} {j : Nat} : ∀ m t, (∀ u, t + m ≤ u → u < t + m + j → Q u = false) → fd_top Q (m + j) t = fd_top Q m t := by
  intro m
  induction m with
  | zero => intro t h; rw [Nat.zero_add]; exact fd_top_0 j t (fun u h1 h2 => h u (by omega) (by omega))
  | succ m ih =>
    intro t h
    rw [show m + 1 + j = (m + j) + 1 by omega]
    show (if Q t = true then nI t else fd_top Q (m + j) (t + 1)) = (if Q t = true then nI t else fd_top Q m (t + 1))
    rw [ih (t + 1) (fun u h1 h2 => h u (by omega) (by omega))]
theorem fd_limc (f : Nat) : fd_lim f = 8 ∨ fd_lim f = 10 := by unfold fd_lim; split <;> simp
theorem fd_G0 {T : Nat → Bool} {fl fi se va : Nat → Int32} {f u : Nat} (h : fd_lim f ≤ u) : fd_G T fl fi se va f u = 0 := if_neg (by omega)
theorem fd_plim {T : Nat → Bool} {fl fi se va : Nat → Int32} {f t : Nat} (h : 0 < fd_G T fl fi se va f t) :
    fd_cnt (fd_R (fd_G T fl fi se va f) t) (fd_lim f) = fd_cnt (fd_R (fd_G T fl fi se va f) t) 10 := by
  have e : fd_lim f + (10 - fd_lim f) = 10 := by rcases fd_limc f with z | z <;> omega
  have x := fd_cnt_ext (P := fd_R (fd_G T fl fi se va f) t) (m := fd_lim f) (10 - fd_lim f) (fun u h1 _ => fd_R_f (by rw [fd_G0 h1]; omega))
  rw [e] at x
  exact x.symm
theorem fd_tlim {T : Nat → Bool} {fl fi se va : Nat → Int32} {f : Nat} {k : Int32} :
    fd_top (fd_Q (fd_G T fl fi se va f) k) 10 0 = fd_top (fd_Q (fd_G T fl fi se va f) k) (fd_lim f) 0 := by
  have e : fd_lim f + (10 - fd_lim f) = 10 := by rcases fd_limc f with z | z <;> omega
  have x := fd_top_x (Q := fd_Q (fd_G T fl fi se va f) k) (j := 10 - fd_lim f) (fd_lim f) 0 (fun u h1 _ => by
    unfold fd_Q
    rw [fd_G0 (by omega), decide_eq_false (by omega)]; rfl)
  rw [e] at x
  exact x
section
variable {th : Int64} {mn : Nat} {wt wg : Nat → Int64} {va od fl fi se : Nat → Int32} {pa : Nat → Int64}
theorem fx_facetG {post : Int32 → Prop} {f t : Nat} (hf : f < 4) (ht : t < fd_lim f) (hC : fd_Cor th mn wt wg va od) (hP : ∀ f, f < 6 → fd_Pas th va fl fi se pa f)
    (h : post (nI (fd_G (fd_bl th) fl fi se va f t))) : wpX_facet post (th, nI mn, wt, wg, va, od, fl, fi, se, pa) (nI f) (nI t) := by
  rw [show fd_G (fd_bl th) fl fi se va f t = fd_FC (fd_bl th) fl fi se va f t from if_pos ht] at h
  exact fx_facet hf ht hC hP h
theorem fx_among_6 {post : Int32 → Prop} {f t : Nat} (hf : f < 4) (ht : t < fd_lim f) (hC : fd_Cor th mn wt wg va od) (hP : ∀ f, f < 6 → fd_Pas th va fl fi se pa f)
    (h : post (nI (fd_cnt (fd_R (fd_G (fd_bl th) fl fi se va f) t) (fd_lim f)))) :
    ∀ n u, u ≤ fd_lim f → fd_lim f < n + u → wX_placeAmong_6 post (nI f) (nI t) (nI (fd_G (fd_bl th) fl fi se va f t)) (nI (fd_lim f)) th (nI mn) wt wg va od fl fi se pa n (nI (fd_cnt (fd_R (fd_G (fd_bl th) fl fi se va f) t) u)) (nI u) := by
  have hl := fd_limc f
  have g1 := fd_G48 (fd_bl th) fl fi se va f t
  intro n
  induction n with
  | zero => intro u h1 h2; omega
  | succ n ih =>
    intro u h1 h2
    refine pk_le (fd_lim f) u (fun z => ?_) (fun z => ?_)
    · have : u = fd_lim f := by omega
      subst this
      exact h
    · have I := ih (u + 1) z (by omega)
      have g2 := fd_G48 (fd_bl th) fl fi se va f u
      refine fx_facetG hf z hC hP ?_
      refine pk_lt (fd_G (fd_bl th) fl fi se va f t) (fd_G (fd_bl th) fl fi se va f u) (fun a => ?_) (fun a => ?_)
      · rw [fd_cnt_t (fd_R_t (Or.inl a))] at I
        exact nm_r (nI_1 _) (nm_r (nI_1 u) I)
      · refine pk_eq (fd_G (fd_bl th) fl fi se va f u) (fd_G (fd_bl th) fl fi se va f t) (fun b => ?_) (fun b => ?_)
        · refine pk_le t u (fun c => ?_) (fun c => ?_)
          · rw [fd_cnt_f (fd_R_f (by omega))] at I
            exact nm_r (Int32.add_zero _) (nm_r (nI_1 u) I)
          · rw [fd_cnt_t (fd_R_t (Or.inr ⟨b, c⟩))] at I
            exact nm_r (nI_1 _) (nm_r (nI_1 u) I)
        · rw [fd_cnt_f (fd_R_f (by omega))] at I
          exact nm_r (Int32.add_zero _) (nm_r (nI_1 u) I)
theorem fx_among {post : Int32 → Prop} {f t : Nat} (hf : f < 4) (ht : t < fd_lim f) (hC : fd_Cor th mn wt wg va od) (hP : ∀ f, f < 6 → fd_Pas th va fl fi se pa f)
    (h : post (nI (fd_cnt (fd_R (fd_G (fd_bl th) fl fi se va f) t) (fd_lim f)))) :
    wpX_placeAmong post (th, nI mn, wt, wg, va, od, fl, fi, se, pa) (nI f) (nI t) (nI (fd_G (fd_bl th) fl fi se va f t)) (nI (fd_lim f)) :=
  ⟨fd_lim f + 1, fx_among_6 hf ht hC hP h (fd_lim f + 1) 0 (by omega) (by omega)⟩
theorem fx_top_26 {post : Int32 → Prop} {f : Nat} {k : Int32} (hf : f < 4) (hC : fd_Cor th mn wt wg va od) (hP : ∀ f, f < 6 → fd_Pas th va fl fi se pa f) :
    ∀ m t, m + t = fd_lim f → post (fd_top (fd_Q (fd_G (fd_bl th) fl fi se va f) k) m t) → wX_topTerm_26 post (nI f) k (nI (fd_lim f)) th (nI mn) wt wg va od fl fi se pa (m + 1) (nI t) := by
  have hl := fd_limc f
  intro m
  induction m with
  | zero =>
    intro t h1 h
    exact br_t (nI_le (by omega) (by omega)) h
  | succ m ih =>
    intro t h1 h
    have I := ih (t + 1) (by omega)
    have ht : t < fd_lim f := by omega
    have g1 := fd_G48 (fd_bl th) fl fi se va f t
    unfold fd_top at h
    refine br_f (nI_ge ht (by omega)) ?_
    refine fx_facetG hf ht hC hP ?_
    refine pk_le (fd_G (fd_bl th) fl fi se va f t) 0 (fun a => ?_) (fun a => ?_)
    · rw [if_neg (by unfold fd_Q; rw [decide_eq_false (by omega)]; exact Bool.false_ne_true)] at h
      exact nm_r (nI_1 t) (I h)
    · refine fx_among hf ht hC hP ?_
      rw [fd_plim a]
      refine br_c (fun c => ?_) (fun c => ?_)
      · rw [if_pos (by unfold fd_Q; rw [decide_eq_true a, decide_eq_true c]; rfl)] at h
        exact h
      · rw [if_neg (by unfold fd_Q; rw [decide_eq_false c, Bool.and_false]; exact Bool.false_ne_true)] at h
        exact nm_r (nI_1 t) (I h)
theorem fx_topTerm {post : Int32 → Prop} {f : Nat} {k : Int32} (hf : f < 4) (hC : fd_Cor th mn wt wg va od) (hP : ∀ f, f < 6 → fd_Pas th va fl fi se pa f)
    (h : post (fd_top (fd_Q (fd_G (fd_bl th) fl fi se va f) k) 10 0)) : wpX_topTerm post (th, nI mn, wt, wg, va, od, fl, fi, se, pa) (nI f) k := by
  rw [fd_tlim] at h
  have R := fx_top_26 (post := post) (k := k) hf hC hP (fd_lim f) 0 rfl h
  unfold wpX_topTerm
  dsimp only
  refine fx_isGroup hf ?_
  refine br_f (by decide) ?_
  refine pk_eq f 3 (fun z => ?_) (fun z => ?_)
  · have e : fd_lim f = 8 := if_pos z
    rw [e] at R
    exact ⟨_, R⟩
  · have e : fd_lim f = 10 := if_neg z
    rw [e] at R
    exact ⟨_, R⟩
end
section
variable {T : Nat → Bool} {mo : Int32} {ath va fl fi hi mk se : Nat → Int32}
theorem fy_top_118 {post : Int32 → Prop} {J : Int32 → Prop} {f t : Nat} {k : Int32} (G : Nat → Nat) (hG : ∀ u, G u ≤ 48) (c : Nat)
    (h0 : G t = 0 → J (nI (t + 1))) (h1 : 0 < G t → nI c = k → post (nI t)) (h2 : 0 < G t → ¬ nI c = k → J (nI (t + 1))) :
    wY_topTerm_118 post J (nI f) k (nI t) (nI (G t)) (nI c) mo ath va fl fi hi mk := by
  have := hG t
  unfold wY_topTerm_118
  refine pk_le (G t) 0 (fun a => ?_) (fun a => br_c (fun b => h1 a b) (fun b => nm_r (nI_1 t) (h2 a b)))
  exact nm_r (nI_1 t) (h0 (by omega))
theorem fy_top_79 {post : Int32 → Prop} {J13 : Int32 → Prop} {J : Int32 → Int32 → Prop} {f t u : Nat} {k : Int32} (G : Nat → Nat) (hG : ∀ u, G u ≤ 48) (ht : t < 10) (hu : u < 10)
    (I : J (nI (fd_cnt (fd_R G t) (u + 1))) (nI (u + 1))) :
    wY_topTerm_79 post J13 J (nI f) k (nI t) (nI (G t)) (nI (fd_cnt (fd_R G t) u)) (nI u) (nI (G u)) mo ath va fl fi hi mk := by
  have g1 := hG t
  have g2 := hG u
  unfold wY_topTerm_79
  refine pk_lt (G t) (G u) (fun a => ?_) (fun a => ?_)
  · rw [fd_cnt_t (fd_R_t (Or.inl a))] at I
    exact nm_r (nI_1 _) (nm_r (nI_1 u) I)
  · refine pk_eq (G u) (G t) (fun b => ?_) (fun b => ?_)
    · refine pk_le t u (fun c => ?_) (fun c => ?_)
      · rw [fd_cnt_f (fd_R_f (by omega))] at I
        exact nm_r (nI_1 u) I
      · rw [fd_cnt_t (fd_R_t (Or.inr ⟨b, c⟩))] at I
        exact nm_r (nI_1 _) (nm_r (nI_1 u) I)
    · rw [fd_cnt_f (fd_R_f (by omega))] at I
      exact nm_r (nI_1 u) I
theorem fy_top_46 {post : Int32 → Prop} {J : Int32 → Prop} {f t : Nat} {k : Int32} (hf : f < 4) (ht : t < 10) (hY : fd_YR T mo ath hi se)
    (h0 : fd_G T fl fi se va f t = 0 → J (nI (t + 1)))
    (h1 : 0 < fd_G T fl fi se va f t → nI (fd_cnt (fd_R (fd_G T fl fi se va f) t) 10) = k → post (nI t))
    (h2 : 0 < fd_G T fl fi se va f t → ¬ nI (fd_cnt (fd_R (fd_G T fl fi se va f) t) 10) = k → J (nI (t + 1))) :
    ∀ n u, u ≤ 10 → 10 < n + u → wY_topTerm_46 post J (nI f) k (nI t) (nI (fd_G T fl fi se va f t)) mo ath va fl fi hi mk n (nI (fd_cnt (fd_R (fd_G T fl fi se va f) t) u)) (nI u) := by
  have hG := fd_G48 T fl fi se va f
  have hl := fd_limc f
  intro n
  induction n with
  | zero => intro u g1 g2; omega
  | succ n ih =>
    intro u g1 g2
    refine pk_le 10 u (fun z => ?_) (fun z => ?_)
    · have : u = 10 := by omega
      subst this
      exact fy_top_118 _ hG _ h0 h1 h2
    · have I := ih (u + 1) z (by omega)
      have gt := hG t
      refine pk_le (fd_G T fl fi se va f t) 0 (fun a => ?_) (fun a => ?_)
      · exact fy_top_118 _ hG _ h0 (fun b => absurd b (by omega)) (fun b => absurd b (by omega))
      · rcases Nat.lt_or_ge u (fd_lim f) with y | y
        · refine fy_isTerm (by omega) y ?_
          refine br_f (by decide) ?_
          refine fy_facetOf (by omega) z hY ?_
          rw [show fd_FC T fl fi se va f u = fd_G T fl fi se va f u from (if_pos y).symm]
          exact fy_top_79 (fd_G T fl fi se va f) hG ht z I
        · refine fy_isTerm0 (by omega) (Or.inr (nI_le y (by omega))) ?_
          refine br_t rfl ?_
          have R := fy_top_79 (post := post) (J13 := J) (f := f) (k := k) (mo := mo) (ath := ath) (va := va) (fl := fl) (fi := fi) (hi := hi) (mk := mk) (fd_G T fl fi se va f) hG ht z I
          rw [fd_G0 (f := f) (u := u) y] at R
          exact R
theorem fy_top_13 {post : Int32 → Prop} {f : Nat} {k : Int32} (hf : f < 4) (hY : fd_YR T mo ath hi se) :
    ∀ m t, m + t = 10 → post (fd_top (fd_Q (fd_G T fl fi se va f) k) m t) → wY_topTerm_13 post (nI f) k mo ath va fl fi hi mk (m + 1) (nI t) := by
  have hl := fd_limc f
  intro m
  induction m with
  | zero =>
    intro t h1 h
    exact br_t (nI_le (a := 10) (by omega) (by omega)) h
  | succ m ih =>
    intro t h1 h
    have I := ih (t + 1) (by omega)
    unfold fd_top at h
    refine br_f (nI_ge (b := 10) (by omega) (by decide)) ?_
    have R := fy_top_46 (post := post) (J := wY_topTerm_13 post (nI f) k mo ath va fl fi hi mk (m + 1)) (t := t) (k := k) (fl := fl) (fi := fi) (va := va) (mk := mk) hf (by omega) hY
      (fun a => I (by rw [if_neg (by unfold fd_Q; rw [decide_eq_false (by omega)]; exact Bool.false_ne_true)] at h; exact h))
      (fun a c => by rw [if_pos (by unfold fd_Q; rw [decide_eq_true a, decide_eq_true c]; rfl)] at h; exact h)
      (fun a c => I (by rw [if_neg (by unfold fd_Q; rw [decide_eq_false c, Bool.and_false]; exact Bool.false_ne_true)] at h; exact h))
      11 0 (by omega) (by omega)
    rcases Nat.lt_or_ge t (fd_lim f) with y | y
    · refine fy_isTerm (by omega) y ?_
      refine br_f (by decide) ?_
      refine fy_facetOf (by omega) (by omega) hY ?_
      rw [show fd_FC T fl fi se va f t = fd_G T fl fi se va f t from (if_pos y).symm]
      exact ⟨11, R⟩
    · refine fy_isTerm0 (by omega) (Or.inr (nI_le y (by omega))) ?_
      refine br_t rfl ?_
      rw [fd_G0 (f := f) (u := t) y] at R
      exact ⟨11, R⟩
theorem fy_topTerm {post : Int32 → Prop} {f : Nat} {k : Int32} (hf : f < 4) (hY : fd_YR T mo ath hi se)
    (h : post (fd_top (fd_Q (fd_G T fl fi se va f) k) 10 0)) : wpY_topTerm post (mo, ath, va, fl, fi, hi, mk) (nI f) k := by
  unfold wpY_topTerm
  dsimp only
  refine fy_isGroup hf ?_
  refine br_f (by decide) ?_
  exact ⟨11, fy_top_13 hf hY 10 0 rfl h⟩
end
end
section
/-! places in an order -/
def fd_kk (va : Nat → Int32) (f : Nat) (w : Int32) (e : Nat) : Int := if w = 0 then 64 * (va (6 * e + f)).toInt + (e : Int) else -(64 * (va (6 * e + f)).toInt) + (e : Int)
def fd_bef (M : Nat → Bool) (va : Nat → Int32) (f : Nat) (w : Int32) (d : Nat) : Nat := fd_cnt (fun e => decide (fd_kk va f w e < fd_kk va f w d) && M e) 48
/-- the answer of an order's question -/
def fd_an (M : Nat → Bool) (va : Nat → Int32) (f : Nat) (w k r : Int32) : Prop :=
  (∃ d, d < 48 ∧ M d = true ∧ nI (fd_bef M va f w d) = k ∧ r = nI d) ∨ ((∀ d, d < 48 → M d = true → ¬ nI (fd_bef M va f w d) = k) ∧ r = -1)
theorem fd_cnt_lt {P Q : Nat → Bool} {k : Nat} (hP : P k = false) (hQ : Q k = true) : ∀ n, k < n → (∀ i, i < n → P i = true → Q i = true) → fd_cnt P n < fd_cnt Q n := by
  have le : ∀ n, (∀ i, i < n → P i = true → Q i = true) → fd_cnt P n ≤ fd_cnt Q n := by
    intro n
    induction n with
    | zero => intro _; exact Nat.le_refl _
    | succ n ih =>
      intro h
      have := ih (fun i hi => h i (by omega))
      cases c : P n with
      | false =>
        rw [fd_cnt_f c]
        cases c2 : Q n with
        | false => rw [fd_cnt_f c2]; exact this
        | true => rw [fd_cnt_t c2]; omega
      | true => rw [fd_cnt_t c, fd_cnt_t (h n (by omega) c)]; omega
  intro n
  induction n with
  | zero => intro h; omega
  | succ n ih =>
    intro hk h
    by_cases z : n = k
    · subst z
      rw [fd_cnt_f hP, fd_cnt_t hQ]
      have := le n (fun i hi => h i (by omega))
      omega
    · have := ih (by omega) (fun i hi => h i (by omega))
      cases c : P n with
      | false =>
        rw [fd_cnt_f c]
        cases c2 : Q n with
        | false => rw [fd_cnt_f c2]; exact this
        | true => rw [fd_cnt_t c2]; omega
      | true => rw [fd_cnt_t c, fd_cnt_t (h n (by omega) c)]; omega
theorem fd_kkinj {va : Nat → Int32} {f : Nat} {w : Int32} {a c : Nat} (ha : a < 48) (hc : c < 48) (h : fd_kk va f w a = fd_kk va f w c) : a = c := by
  unfold fd_kk at h
  split at h <;> omega
theorem fd_bef_lt {M : Nat → Bool} {va : Nat → Int32} {f : Nat} {w : Int32} {a c : Nat} (ha : a < 48) (hM : M a = true) (h : fd_kk va f w a < fd_kk va f w c) : fd_bef M va f w a < fd_bef M va f w c := by
  refine fd_cnt_lt (k := a) ?_ ?_ 48 ha ?_
  · rw [decide_eq_false (by omega)]; rfl
  · rw [decide_eq_true h, hM]; rfl
  · intro i _ hi
    rw [Bool.and_eq_true, decide_eq_true_iff] at hi ⊢
    exact ⟨by omega, hi.2⟩
theorem fd_an_u {M : Nat → Bool} {va : Nat → Int32} {f : Nat} {w k r r' : Int32} (h : fd_an M va f w k r) (h' : fd_an M va f w k r') : r' = r := by
  have b : ∀ d, fd_bef M va f w d ≤ 48 := fun d => fd_cnt_le _ _
  rcases h with ⟨d, hd, hM, hb, e⟩ | ⟨hn, e⟩
  · rcases h' with ⟨d', hd', hM', hb', e'⟩ | ⟨hn', _⟩
    · have eb : fd_bef M va f w d = fd_bef M va f w d' := (nI_eq (Nat.lt_of_le_of_lt (b d) (by decide)) (Nat.lt_of_le_of_lt (b d') (by decide))).mp (hb.trans hb'.symm)
      have : d = d' := by
        rcases Int.lt_trichotomy (fd_kk va f w d) (fd_kk va f w d') with z | z | z
        · have := fd_bef_lt hd hM z; omega
        · exact fd_kkinj hd hd' z
        · have := fd_bef_lt hd' hM' z; omega
      rw [e', e, this]
    · exact absurd hb (hn' d hd hM)
  · rcases h' with ⟨d', hd', hM', hb', _⟩ | ⟨_, e'⟩
    · exact absurd hb' (hn d' hd' hM')
    · rw [e, e']
/-- the extreme value -/
def fd_le (w : Int32) (a c : Int) : Prop := if w = 0 then a ≤ c else c ≤ a
def fd_ex (Q : Nat → Bool) (va : Nat → Int32) (f : Nat) (w : Int32) (n : Nat) (r : Int32) : Prop :=
  (∃ d, d < n ∧ Q d = true ∧ r = va (6 * d + f) ∧ ∀ e, e < n → Q e = true → fd_le w (va (6 * d + f)).toInt (va (6 * e + f)).toInt) ∨ ((∀ d, d < n → Q d = false) ∧ r = -2002)
theorem fd_ex_u {Q : Nat → Bool} {va : Nat → Int32} {f n : Nat} {w r r' : Int32} (h : fd_ex Q va f w n r) (h' : fd_ex Q va f w n r') : r' = r := by
  rcases h with ⟨d, hd, hQ, e, hm⟩ | ⟨hn, e⟩
  · rcases h' with ⟨d', hd', hQ', e', hm'⟩ | ⟨hn', _⟩
    · have a := hm d' hd' hQ'
      have c := hm' d hd hQ
      rw [e, e']
      apply Int32.toInt_inj.mp
      unfold fd_le at a c
      split at a <;> rename_i z
      · rw [if_pos z] at c; omega
      · rw [if_neg z] at c; omega
    · rw [hn' d hd] at hQ; exact absurd hQ (by decide)
  · rcases h' with ⟨d', hd', hQ', _, _⟩ | ⟨_, e'⟩
    · rw [hn d' hd'] at hQ'; exact absurd hQ' (by decide)
    · rw [e, e']
/-- what has been seen counts what comes before -/
theorem fd_bvis {M vis : Nat → Bool} {va : Nat → Int32} {f mn i : Nat} {w : Int32} {o : Nat → Nat} (hM : ∀ d, M d = true → ∃ i, i < mn ∧ o i = d)
    (hv : ∀ j, j < mn → (vis (o j) = true ↔ fd_kk va f w (o j) < fd_kk va f w (o i))) : fd_bef M va f w (o i) = fd_cnt (fun e => vis e && M e) 48 := by
  apply fd_cnt_c
  intro e _
  cases c : M e with
  | false => simp
  | true =>
    obtain ⟨j, hj, rfl⟩ := hM e c
    have : decide (fd_kk va f w (o j) < fd_kk va f w (o i)) = vis (o j) := by
      apply fd_beq
      rw [decide_eq_true_iff, hv j hj]
    rw [this]
theorem fd_vt {M vis : Nat → Bool} {d : Nat} (hd : d < 48) (hv : vis d = false) (hM : M d = true) : fd_cnt (fun e => (vis e || decide (e = d)) && M e) 48 = fd_cnt (fun e => vis e && M e) 48 + 1 := by
  refine fd_cnt_1 (k := d) ?_ ?_ 48 hd ?_
  · rw [hM]; simp
  · rw [hv]; rfl
  · intro i _ hn
    rw [decide_eq_false hn, Bool.or_false]
theorem fd_vf {M vis : Nat → Bool} {d : Nat} (hM : M d = false) : fd_cnt (fun e => (vis e || decide (e = d)) && M e) 48 = fd_cnt (fun e => vis e && M e) 48 := by
  apply fd_cnt_c
  intro i _
  by_cases z : i = d
  · subst z; rw [hM]; simp
  · rw [decide_eq_false z, Bool.or_false]
theorem fd_oinj {va : Nat → Int32} {f mn : Nat} {o : Nat → Nat} (hs : ∀ i j, i < j → j < mn → fd_key va f (o i) < fd_key va f (o j)) {i j : Nat} (hi : i < mn) (hj : j < mn) (h : o i = o j) : i = j := by
  rcases Nat.lt_trichotomy i j with z | z | z
  · have := hs i j z hj; rw [h] at this; exact absurd this (Int.lt_irrefl _)
  · exact z
  · have := hs j i z hi; rw [h] at this; exact absurd this (Int.lt_irrefl _)
section
variable {th : Int64} {mn : Nat} {wt wg : Nat → Int64} {va od fl fi se : Nat → Int32} {pa : Nat → Int64}
theorem fx_docAt_20 {post : Int32 → Prop} {f b : Nat} {k : Int32} {s : Int64} {o : Nat → Nat} (hb : b ≤ 48) (hm : mn ≤ 48)
    (ho : ∀ i, i < mn → od (b + i) = nI (o i) ∧ o i < 48) (hs : ∀ i j, i < j → j < mn → fd_key va f (o i) < fd_key va f (o j))
    (hM : ∀ d, fd_bl s d = true → ∃ i, i < mn ∧ o i = d) (h : ∀ r, fd_an (fd_bl s) va f 0 k r → post r) :
    ∀ n i (vis : Nat → Bool), i ≤ mn → mn < n + i → (∀ j, j < mn → (vis (o j) = true ↔ j < i)) → (∀ j, j < i → fd_bl s (o j) = true → ¬ nI (fd_bef (fd_bl s) va f 0 (o j)) = k) →
      wX_documentAt_20 post k s (nI b) th (nI mn) wt wg va od fl fi se pa n (nI (fd_cnt (fun e => vis e && fd_bl s e) 48)) (nI i) := by
  have K : ∀ e, fd_kk va f 0 e = fd_key va f e := fun e => if_pos rfl
  intro n
  induction n with
  | zero => intro i vis h1 h2; omega
  | succ n ih =>
    intro i vis h1 h2 hv hn
    refine pk_le mn i (fun z => ?_) (fun z => ?_)
    · refine h _ (Or.inr ⟨?_, rfl⟩)
      intro d _ hd
      obtain ⟨j, hj, rfl⟩ := hM d hd
      exact hn j (by omega) hd
    · obtain ⟨h5, h6⟩ := ho i z
      have hB : fd_bef (fd_bl s) va f 0 (o i) = fd_cnt (fun e => vis e && fd_bl s e) 48 := by
        refine fd_bvis hM ?_
        intro j hj
        rw [hv j hj, K, K]
        constructor
        · intro y; exact hs j i y z
        · intro y
          rcases Nat.lt_trichotomy j i with g | g | g
          · exact g
          · subst g; exact absurd y (Int.lt_irrefl _)
          · have := hs i j g hj; omega
      have hvi : vis (o i) = false := ts_nt (fun y => absurd ((hv i z).mp y) (by omega))
      have hv' : ∀ j, j < mn → ((vis (o j) || decide (o j = o i)) = true ↔ j < i + 1) := by
        intro j hj
        rw [Bool.or_eq_true, hv j hj, decide_eq_true_iff]
        constructor
        · rintro (y | y)
          · omega
          · have := fd_oinj hs hj z y; omega
        · intro y
          by_cases g : j = i
          · subst g; exact Or.inr rfl
          · exact Or.inl (by omega)
      refine ⟨fd_inA (by omega), ?_⟩
      rw [fd_clA (by omega), h5]
      refine fx_in s (o i) (by omega) (fd_br _ (fun c => ?_) (fun c => ?_))
      · have I := ih (i + 1) (fun e => vis e || decide (e = o i)) z (by omega) hv' (by
          intro j hj hd
          by_cases g : j = i
          · subst g; rw [c] at hd; exact absurd hd (by decide)
          · exact hn j (by omega) hd)
        rw [fd_vf c] at I
        exact nm_r (nI_1 i) I
      · refine br_c (fun y => ?_) (fun y => ?_)
        · exact ⟨fd_inA (by omega), h _ (Or.inl ⟨o i, h6, c, by rw [hB]; exact y, rfl⟩)⟩
        · have I := ih (i + 1) (fun e => vis e || decide (e = o i)) z (by omega) hv' (by
            intro j hj hd
            by_cases g : j = i
            · subst g; rw [hB]; exact y
            · exact hn j (by omega) hd)
          rw [fd_vt h6 hvi c] at I
          exact nm_r (nI_1 _) (nm_r (nI_1 i) I)
theorem fd_MT {T : Nat → Bool} {but : Int32} {e : Nat} (h : fd_M T fl fi se va but e = true) : T e = true := by
  unfold fd_M at h
  rw [Bool.and_eq_true] at h
  exact h.1
theorem fx_docAt {post : Int32 → Prop} {f b : Nat} {k : Int32} (hf : fd_fb f b) (hO : fd_Ord f b (fd_bl th) od mn va) (hP : ∀ f, f < 6 → fd_Pas th va fl fi se pa f)
    (h : ∀ r, fd_an (fd_M (fd_bl th) fl fi se va (-1)) va f 0 k r → post r) : wpX_documentAt post (th, nI mn, wt, wg, va, od, fl, fi, se, pa) (nI f) k := by
  obtain ⟨hm, o, ho, hs, hc⟩ := hO
  have hb : b ≤ 48 := by unfold fd_fb at hf; omega
  unfold wpX_documentAt
  dsimp only
  refine fx_beside hP ?_
  intro s hS
  have e : fd_bl s = fd_M (fd_bl th) fl fi se va (-1) := funext hS
  refine nm_r (e' := nI b) (fd_base hf) ?_
  have R := fx_docAt_20 (post := post) (k := k) (th := th) (wt := wt) (wg := wg) (fl := fl) (fi := fi) (se := se) (pa := pa) (s := s) hb hm ho hs (by intro d hd; rw [hS d] at hd; exact (hc d).mp (fd_MT hd)) (by rw [e]; exact h) (mn + 1) 0 (fun _ => false) (by omega) (by omega) (fun j hj => by simp) (fun j hj => by omega)
  rw [fd_cnt_0 (P := fun e => false && fd_bl s e) (fun i _ => rfl)] at R
  exact ⟨mn + 1, R⟩
theorem fx_fall_76 {post : Int32 → Prop} {J : Int32 → Int32 → Int32 → Prop} {f b en st fr : Nat} {k : Int32} {s : Int64} {N : Int} {o : Nat → Nat} (hb : b ≤ 48) (hm : mn ≤ 48)
    (ho : ∀ i, i < mn → od (b + i) = nI (o i) ∧ o i < 48) (hs : ∀ i j, i < j → j < mn → fd_key va f (o i) < fd_key va f (o j))
    (hM : ∀ d, fd_bl s d = true → ∃ i, i < mn ∧ o i = d) (h : ∀ r, fd_an (fd_bl s) va f 1 k r → post r) (hen : en ≤ mn)
    (b1 : ∀ j, en ≤ j → j < mn → N < (va (6 * o j + f)).toInt) (b2 : ∀ j, fr ≤ j → j < en → (va (6 * o j + f)).toInt = N) (b3 : ∀ j, j < fr → j < mn → (va (6 * o j + f)).toInt < N)
    (hJ : ∀ vis : Nat → Bool, (∀ j, j < mn → (vis (o j) = true ↔ fr ≤ j)) → (∀ j, j < mn → vis (o j) = true → fd_bl s (o j) = true → ¬ nI (fd_bef (fd_bl s) va f 1 (o j)) = k) → J (nI (fd_cnt (fun e => vis e && fd_bl s e) 48)) (nI fr) (nI (st + 1))) :
    ∀ n i (vis : Nat → Bool), fr ≤ i → i ≤ en → en < n + i → (∀ j, j < mn → (vis (o j) = true ↔ en ≤ j ∨ (fr ≤ j ∧ j < i))) → (∀ j, j < mn → vis (o j) = true → fd_bl s (o j) = true → ¬ nI (fd_bef (fd_bl s) va f 1 (o j)) = k) →
      wX_fallingAt_76 post J (nI f) k s (nI b) (nI en) (nI st) (nI fr) th (nI mn) wt wg va od fl fi se pa n (nI (fd_cnt (fun e => vis e && fd_bl s e) 48)) (nI i) := by
  have K : ∀ e, fd_kk va f 1 e = -(64 * (va (6 * e + f)).toInt) + (e : Int) := fun e => if_neg (by decide)
  have K0 : ∀ e, fd_key va f e = 64 * (va (6 * e + f)).toInt + (e : Int) := fun e => rfl
  intro n
  induction n with
  | zero => intro i vis _ h1 h2; omega
  | succ n ih =>
    intro i vis h0 h1 h2 hv hn
    refine pk_le en i (fun z => ?_) (fun z => ?_)
    · refine nm_r (nI_1 st) (hJ vis ?_ hn)
      intro j hj
      rw [hv j hj]
      omega
    · obtain ⟨h5, h6⟩ := ho i (by omega)
      have hB : fd_bef (fd_bl s) va f 1 (o i) = fd_cnt (fun e => vis e && fd_bl s e) 48 := by
        refine fd_bvis hM ?_
        intro j hj
        have h7 := (ho j hj).2
        have hi := b2 i h0 z
        rw [hv j hj, K, K, hi]
        rcases Nat.lt_or_ge j fr with g | g
        · have := b3 j g hj
          omega
        · rcases Nat.lt_or_ge j en with g2 | g2
          · have e1 := b2 j g g2
            have k1 := K0 (o i)
            have k2 := K0 (o j)
            rw [hi] at k1
            rw [e1] at k2
            rw [e1]
            rcases Nat.lt_trichotomy j i with y | y | y
            · have := hs j i y (by omega)
              omega
            · subst y; omega
            · have := hs i j y hj
              omega
          · have := b1 j g2 hj
            omega
      have hvi : vis (o i) = false := ts_nt (fun y => absurd ((hv i (by omega)).mp y) (by omega))
      have hv' : ∀ j, j < mn → ((vis (o j) || decide (o j = o i)) = true ↔ en ≤ j ∨ (fr ≤ j ∧ j < i + 1)) := by
        intro j hj
        rw [Bool.or_eq_true, hv j hj, decide_eq_true_iff]
        constructor
        · rintro (y | y)
          · omega
          · have := fd_oinj hs hj (by omega) y; omega
        · intro y
          by_cases g : j = i
          · subst g; exact Or.inr rfl
          · exact Or.inl (by omega)
      refine ⟨fd_inA (by omega), ?_⟩
      rw [fd_clA (by omega), h5]
      refine fx_in s (o i) (by omega) (fd_br _ (fun c => ?_) (fun c => ?_))
      · have I := ih (i + 1) (fun e => vis e || decide (e = o i)) (by omega) z (by omega) hv' (by
          intro j hj hvj hd
          by_cases g : o j = o i
          · rw [g, c] at hd; exact absurd hd (by decide)
          · rw [decide_eq_false g, Bool.or_false] at hvj
            exact hn j hj hvj hd)
        rw [fd_vf c] at I
        exact nm_r (nI_1 i) I
      · refine br_c (fun y => ?_) (fun y => ?_)
        · exact ⟨fd_inA (by omega), h _ (Or.inl ⟨o i, h6, c, by rw [hB]; exact y, rfl⟩)⟩
        · have I := ih (i + 1) (fun e => vis e || decide (e = o i)) (by omega) z (by omega) hv' (by
            intro j hj hvj hd
            by_cases g : o j = o i
            · rw [g, hB]; exact y
            · rw [decide_eq_false g, Bool.or_false] at hvj
              exact hn j hj hvj hd)
          rw [fd_vt h6 hvi c] at I
          exact nm_r (nI_1 _) (nm_r (nI_1 i) I)
theorem fx_fall_26 {post : Int32 → Prop} {f b : Nat} {k : Int32} {s : Int64} {o : Nat → Nat} (hf : fd_fb f b) (hm : mn ≤ 48)
    (ho : ∀ i, i < mn → od (b + i) = nI (o i) ∧ o i < 48) (hs : ∀ i j, i < j → j < mn → fd_key va f (o i) < fd_key va f (o j))
    (hM : ∀ d, fd_bl s d = true → ∃ i, i < mn ∧ o i = d) (h : ∀ r, fd_an (fd_bl s) va f 1 k r → post r) :
    ∀ n en st (vis : Nat → Bool), en ≤ mn → en < n → st + en ≤ mn → (∀ i j, i < en → en ≤ j → j < mn → (va (6 * o i + f)).toInt < (va (6 * o j + f)).toInt) → (∀ j, j < mn → (vis (o j) = true ↔ en ≤ j)) → (∀ j, j < mn → vis (o j) = true → fd_bl s (o j) = true → ¬ nI (fd_bef (fd_bl s) va f 1 (o j)) = k) →
      wX_fallingAt_26 post (nI f) k s (nI b) th (nI mn) wt wg va od fl fi se pa n (nI (fd_cnt (fun e => vis e && fd_bl s e) 48)) (nI en) (nI st) := by
  have hb : b ≤ 48 := by unfold fd_fb at hf; omega
  have hf6 := fd_fb6 hf
  have D1 : (-1 : Int32).toInt = -1 := by decide
  have K0 : ∀ e, fd_key va f e = 64 * (va (6 * e + f)).toInt + (e : Int) := fun e => rfl
  intro n
  induction n with
  | zero => intro en st vis h1 h2; omega
  | succ n ih =>
    intro en st vis h1 h2 h3 hbd hv hn
    have E : en = 0 → post (-1) := by
      intro z
      refine h _ (Or.inr ⟨?_, rfl⟩)
      intro d _ hd
      obtain ⟨j, hj, rfl⟩ := hM d hd
      exact hn j hj ((hv j hj).mpr (by omega)) hd
    refine pk_le 48 st (fun z => E (by omega)) (fun z => ?_)
    refine pk_le en 0 (fun y => E (by omega)) (fun y => ?_)
    obtain ⟨l, rfl⟩ : ∃ l, en = l + 1 := ⟨en - 1, by omega⟩
    obtain ⟨h5, h6⟩ := ho l (by omega)
    have e1 : (nI b + nI (l + 1)) - 1 = nI (b + l) := by rw [nI_add]; exact nI_pred (b + l)
    rw [e1, nI_clamp (show b + l < 2 ^ 31 by omega), h5]
    refine ⟨vp_in_nI (by omega) (by decide), fd_in6 h6 hf6, nm_r (e' := va (6 * o l + f)) (by rw [fd_cl6 h6 hf6]) ?_⟩
    obtain ⟨p, hp, hl, hr⟩ := fd_split (fun i => fd_key va f (o i)) (64 * (va (6 * o l + f)).toInt + (-1 : Int32).toInt) mn hs
    refine fx_place hf hm ho hp hl hr (by rw [D1]; omega) (by rw [D1]; omega) ?_
    have pl : p ≤ l := by
      rcases Nat.lt_or_ge l p with g | g
      · have := hl l g
        rw [D1, K0] at this
        omega
      · exact g
    have c3 : ∀ j, j < p → j < mn → (va (6 * o j + f)).toInt < (va (6 * o l + f)).toInt := by
      intro j hj hj2
      have := hl j hj
      rw [D1, K0] at this
      have := (ho j hj2).2
      omega
    have c2 : ∀ j, p ≤ j → j < l + 1 → (va (6 * o j + f)).toInt = (va (6 * o l + f)).toInt := by
      intro j g1 g2
      have a1 := hr j g1 (by omega)
      rw [D1, K0] at a1
      have a2 := (ho j (by omega)).2
      by_cases y2 : j = l
      · rw [y2]
      · have a3 := hs j l (by omega) (by omega)
        rw [K0, K0] at a3
        omega
    refine ⟨l + 1 - p + 1, fx_fall_76 (N := (va (6 * o l + f)).toInt) hb hm ho hs hM h h1 (fun j g1 g2 => hbd l j (by omega) g1 g2) c2 c3 ?_ (l + 1 - p + 1) p vis (Nat.le_refl _) (by omega) (by omega) (fun j hj => by rw [hv j hj]; omega) hn⟩
    intro vis' hv' hn'
    refine ih p (st + 1) vis' hp (by omega) (by omega) ?_ hv' hn'
    intro i j g1 g2 g3
    have a1 := c3 i g1 (by omega)
    have a2 := hr j g2 g3
    rw [D1, K0] at a2
    have a3 := (ho j g3).2
    omega
theorem fx_fall {post : Int32 → Prop} {f b : Nat} {k : Int32} (hf : fd_fb f b) (hO : fd_Ord f b (fd_bl th) od mn va) (hP : ∀ f, f < 6 → fd_Pas th va fl fi se pa f)
    (h : ∀ r, fd_an (fd_M (fd_bl th) fl fi se va (-1)) va f 1 k r → post r) : wpX_fallingAt post (th, nI mn, wt, wg, va, od, fl, fi, se, pa) (nI f) k := by
  obtain ⟨hm, o, ho, hs, hc⟩ := hO
  unfold wpX_fallingAt
  dsimp only
  refine fx_beside hP ?_
  intro s hS
  have e : fd_bl s = fd_M (fd_bl th) fl fi se va (-1) := funext hS
  refine nm_r (e' := nI b) (fd_base hf) ?_
  have R := fx_fall_26 (post := post) (k := k) (th := th) (wt := wt) (wg := wg) (fl := fl) (fi := fi) (se := se) (pa := pa) (s := s) hf hm ho hs (by intro d hd; rw [hS d] at hd; exact (hc d).mp (fd_MT hd)) (by rw [e]; exact h) (mn + 1) mn 0 (fun _ => false) (by omega) (by omega) (by omega) (fun i j _ g1 g2 => by omega) (fun j hj => ⟨(fun y => nomatch y), fun y => by omega⟩) (fun j hj y => nomatch y)
  rw [fd_cnt_0 (P := fun e => false && fd_bl s e) (fun i _ => rfl)] at R
  exact ⟨mn + 1, R⟩
theorem fx_ext_121 {post : Int32 → Prop} {J : Int32 → Prop} {f b i j : Nat} {w : Int32} {s : Int64} {o : Nat → Nat} {z0 : Int32} (hf : fd_fb f b) (hm : mn ≤ 48)
    (ho : ∀ i, i < mn → od (b + i) = nI (o i) ∧ o i < 48) (hj : j < mn) (hz : z0 = nI j)
    (h0 : fd_bl s (o j) = false → J (nI (i + 1))) (h1 : fd_bl s (o j) = true → post (va (6 * o j + f))) :
    wX_extreme_121 post J (nI f) w s (nI b) (nI i) z0 (nI b) th (nI mn) wt wg va od fl fi se pa := by
  have hb : b ≤ 48 := by unfold fd_fb at hf; omega
  obtain ⟨h5, h6⟩ := ho j hj
  subst hz
  unfold wX_extreme_121
  refine ⟨fd_inA (by omega), nm_r (e' := nI (o j)) (by rw [fd_clA (by omega), h5]) ?_⟩
  refine fx_in s (o j) (by omega) (fd_br _ (fun c => nm_r (nI_1 i) (h0 c)) (fun c => ⟨fd_in6 h6 (fd_fb6 hf), ?_⟩))
  rw [fd_cl6 h6 (fd_fb6 hf)]
  exact h1 c
theorem fx_ext_87 {post : Int32 → Prop} {f b : Nat} {w : Int32} {s : Int64} {o : Nat → Nat} (hf : fd_fb f b) (hm : mn ≤ 48)
    (ho : ∀ i, i < mn → od (b + i) = nI (o i) ∧ o i < 48) (hs : ∀ i j, i < j → j < mn → fd_key va f (o i) < fd_key va f (o j))
    (hM : ∀ d, fd_bl s d = true → ∃ i, i < mn ∧ o i = d) (h : ∀ r, fd_ex (fd_bl s) va f w 48 r → post r) :
    ∀ n i, i ≤ mn → mn < n + i → (∀ j, j < mn → (if w = 0 then j < i else mn ≤ j + i) → fd_bl s (o j) = false) → wX_extreme_87 post (nI f) w s (nI b) th (nI mn) wt wg va od fl fi se pa n (nI i) := by
  have K0 : ∀ e, fd_key va f e = 64 * (va (6 * e + f)).toInt + (e : Int) := fun e => rfl
  intro n
  induction n with
  | zero => intro i h1 h2; omega
  | succ n ih =>
    intro i h1 h2 hn
    refine pk_le mn i (fun z => ?_) (fun z => ?_)
    · refine h _ (Or.inr ⟨?_, rfl⟩)
      intro d _
      apply ts_nt
      intro hd
      obtain ⟨j, hj, rfl⟩ := hM d hd
      rw [hn j hj (by split <;> omega)] at hd
      exact absurd hd (by decide)
    · refine br_c (fun c => ?_) (fun c => ?_)
      · simp only [if_pos c] at hn
        refine fx_ext_121 hf hm ho (j := i) z rfl (fun y => ih (i + 1) z (by omega) ?_) (fun y => h _ (Or.inl ⟨o i, (ho i z).2, y, rfl, ?_⟩))
        · intro j hj hj2
          rw [if_pos c] at hj2
          by_cases g : j = i
          · rw [g]; exact y
          · exact hn j hj (by omega)
        · intro e _ he
          obtain ⟨j, hj, rfl⟩ := hM e he
          unfold fd_le
          rw [if_pos c]
          rcases Nat.lt_trichotomy j i with g | g | g
          · rw [hn j hj g] at he; exact absurd he (by decide)
          · rw [g]; exact Int.le_refl _
          · have := hs i j g hj
            rw [K0, K0] at this
            have := (ho j hj).2
            omega
      · simp only [if_neg c] at hn
        have ez : (nI mn - 1) - nI i = nI (mn - 1 - i) := by
          obtain ⟨m, rfl⟩ : ∃ m, mn = m + 1 := ⟨mn - 1, by omega⟩
          rw [nI_pred, pk_sub (by omega)]
          rfl
        refine fx_ext_121 hf hm ho (j := mn - 1 - i) (by omega) ez (fun y => ih (i + 1) z (by omega) ?_) (fun y => h _ (Or.inl ⟨o (mn - 1 - i), (ho _ (by omega)).2, y, rfl, ?_⟩))
        · intro j hj hj2
          rw [if_neg c] at hj2
          by_cases g : j = mn - 1 - i
          · rw [g]; exact y
          · exact hn j hj (by omega)
        · intro e _ he
          obtain ⟨j, hj, rfl⟩ := hM e he
          unfold fd_le
          rw [if_neg c]
          rcases Nat.lt_trichotomy j (mn - 1 - i) with g | g | g
          · have := hs j (mn - 1 - i) g (by omega)
            rw [K0, K0] at this
            have := (ho (mn - 1 - i) (by omega)).2
            omega
          · rw [g]; exact Int.le_refl _
          · rw [hn j hj (by omega)] at he; exact absurd he (by decide)
end
end
section
/-! the reference's places and extremes -/
section
variable {T : Nat → Bool} {mo : Int32} {ath va fl fi hi mk se : Nat → Int32}
theorem fy_io_104 {post : Int32 → Prop} {J3 : Int32 → Prop} {J : Int32 → Int32 → Prop} {f d e : Nat} {w k v : Int32} {z : Bool} (he : e < 48) (hY : fd_YR T mo ath hi se) (P : Nat → Bool) (hP : P e = (z && fd_M T fl fi se va (-1) e))
    (h : J (nI (fd_cnt P (e + 1))) (nI (e + 1))) :
    wY_inOrder_104 post J3 J (nI f) w k (nI d) v (nI (fd_cnt P e)) (nI e) (fd_b2i z) mo ath va fl fi hi mk := by
  unfold wY_inOrder_104
  refine fd_br z (fun c => ?_) (fun c => ?_)
  · rw [fd_cnt_f (by rw [hP, c]; rfl)] at h
    exact nm_r (nI_1 e) h
  · refine fy_matches he hY (fd_br _ (fun c2 => ?_) (fun c2 => ?_))
    · rw [fd_cnt_f (by rw [hP, c, c2]; rfl)] at h
      exact nm_r (nI_1 e) h
    · rw [fd_cnt_t (by rw [hP, c, c2]; rfl)] at h
      exact nm_r (nI_1 _) (nm_r (nI_1 e) h)
theorem fd_kkc {f d e : Nat} {w : Int32} (hd : d < 48) (he : e < 48) :
    (va (6 * e + f) = va (6 * d + f) → (fd_kk va f w e < fd_kk va f w d ↔ e < d)) ∧
    (¬ va (6 * e + f) = va (6 * d + f) → w = 0 → (fd_kk va f w e < fd_kk va f w d ↔ ¬ va (6 * d + f) ≤ va (6 * e + f))) ∧
    (¬ va (6 * e + f) = va (6 * d + f) → ¬ w = 0 → (fd_kk va f w e < fd_kk va f w d ↔ ¬ va (6 * e + f) ≤ va (6 * d + f))) := by
  unfold fd_kk
  rw [Int32.le_iff_toInt_le, Int32.le_iff_toInt_le, ← Int32.toInt_inj]
  refine ⟨fun h => ?_, fun h hw => ?_, fun h hw => ?_⟩
  · rw [h]
    split <;> omega
  · rw [if_pos hw, if_pos hw]
    omega
  · rw [if_neg hw, if_neg hw]
    omega
theorem fy_io_30 {post : Int32 → Prop} {J : Int32 → Prop} {f d : Nat} {w k : Int32} (hf : f < 6) (hd : d < 48) (hY : fd_YR T mo ath hi se)
    (h0 : fd_M T fl fi se va (-1) d = false → J (nI (d + 1)))
    (h1 : fd_M T fl fi se va (-1) d = true → nI (fd_bef (fd_M T fl fi se va (-1)) va f w d) = k → post (nI d))
    (h2 : fd_M T fl fi se va (-1) d = true → ¬ nI (fd_bef (fd_M T fl fi se va (-1)) va f w d) = k → J (nI (d + 1))) :
    ∀ n e, e ≤ 48 → 48 < n + e → wY_inOrder_30 post J (nI f) w k (nI d) (va (6 * d + f)) mo ath va fl fi hi mk n (nI (fd_cnt (fun e => decide (fd_kk va f w e < fd_kk va f w d) && fd_M T fl fi se va (-1) e) e)) (nI e) := by
  intro n
  induction n with
  | zero => intro e g1 g2; omega
  | succ n ih =>
    intro e g1 g2
    refine pk_le 48 e (fun z => ?_) (fun z => ?_)
    · have : e = 48 := by omega
      subst this
      refine fy_matches hd hY (fd_br _ (fun c => nm_r (nI_1 d) (h0 c)) (fun c => br_c (fun y => h1 c y) (fun y => nm_r (nI_1 d) (h2 c y))))
    · have I := ih (e + 1) z (by omega)
      obtain ⟨c1, c2, c3⟩ := fd_kkc (va := va) (f := f) (w := w) hd z
      have S : ∀ x : Bool, (fd_kk va f w e < fd_kk va f w d ↔ x = true) → wY_inOrder_104 post J (wY_inOrder_30 post J (nI f) w k (nI d) (va (6 * d + f)) mo ath va fl fi hi mk n) (nI f) w k (nI d) (va (6 * d + f)) (nI (fd_cnt (fun e => decide (fd_kk va f w e < fd_kk va f w d) && fd_M T fl fi se va (-1) e) e)) (nI e) (fd_b2i x) mo ath va fl fi hi mk := by
        intro x hx
        refine fy_io_104 z hY (fun e => decide (fd_kk va f w e < fd_kk va f w d) && fd_M T fl fi se va (-1) e) ?_ I
        have : decide (fd_kk va f w e < fd_kk va f w d) = x := fd_beq (by rw [decide_eq_true_iff]; exact hx)
        show (decide (fd_kk va f w e < fd_kk va f w d) && _) = _
        rw [this]
      refine ⟨fd_in6 z hf, nm_r (e' := va (6 * e + f)) (by rw [fd_cl6 z hf]) ?_⟩
      refine br_c (fun y => ?_) (fun y => ?_)
      · have c1 := c1 y
        refine pk_le d e (fun a => S false ?_) (fun a => S true ?_)
        · rw [c1]; exact ⟨fun b => absurd b (by omega), fun b => nomatch b⟩
        · rw [c1]; exact ⟨fun _ => rfl, fun _ => a⟩
      · refine br_c (fun hw => ?_) (fun hw => ?_)
        · have c2 := c2 y hw
          refine br_c (fun a => S false ?_) (fun a => S true ?_)
          · rw [c2]; exact ⟨fun b => absurd a b, fun b => nomatch b⟩
          · rw [c2]; exact ⟨fun _ => rfl, fun _ => a⟩
        · have c3 := c3 y hw
          refine br_c (fun a => S false ?_) (fun a => S true ?_)
          · rw [c3]; exact ⟨fun b => absurd a b, fun b => nomatch b⟩
          · rw [c3]; exact ⟨fun _ => rfl, fun _ => a⟩
theorem fy_io_3 {post : Int32 → Prop} {f : Nat} {w k : Int32} (hf : f < 6) (hY : fd_YR T mo ath hi se)
    (h : ∀ r, fd_an (fd_M T fl fi se va (-1)) va f w k r → post r) :
    ∀ n d, d ≤ 48 → 48 < n + d → (∀ e, e < d → fd_M T fl fi se va (-1) e = true → ¬ nI (fd_bef (fd_M T fl fi se va (-1)) va f w e) = k) → wY_inOrder_3 post (nI f) w k mo ath va fl fi hi mk n (nI d) := by
  intro n
  induction n with
  | zero => intro d g1 g2; omega
  | succ n ih =>
    intro d g1 g2 hn
    refine pk_le 48 d (fun z => ?_) (fun z => ?_)
    · have : d = 48 := by omega
      subst this
      exact h _ (Or.inr ⟨hn, rfl⟩)
    · refine ⟨fd_in6 z hf, nm_r (e' := va (6 * d + f)) (by rw [fd_cl6 z hf]) ⟨49, fy_io_30 hf z hY (fun c => ih (d + 1) z (by omega) ?_) (fun c y => h _ (Or.inl ⟨d, z, c, y, rfl⟩)) (fun c y => ih (d + 1) z (by omega) ?_) 49 0 (by omega) (by omega)⟩⟩
      · intro e he hM
        by_cases g : e = d
        · rw [g, c] at hM; exact absurd hM (by decide)
        · exact hn e (by omega) hM
      · intro e he hM
        by_cases g : e = d
        · rw [g]; exact y
        · exact hn e (by omega) hM
theorem fy_inOrder {post : Int32 → Prop} {f : Nat} {w k : Int32} (hf : f < 6) (hY : fd_YR T mo ath hi se)
    (h : ∀ r, fd_an (fd_M T fl fi se va (-1)) va f w k r → post r) : wpY_inOrder post (mo, ath, va, fl, fi, hi, mk) (nI f) w k :=
  ⟨49, fy_io_3 hf hY h 49 0 (by omega) (by omega) (fun e he => by omega)⟩
theorem fy_ext_128 {post : Int32 → Prop} {J : Int32 → Int32 → Prop} {f g t d : Nat} {w bs v : Int32} {z : Bool} (hd : d < 48) (hg : g < 6) (ht : t < 10) (hY : fd_YR T mo ath hi se)
    (h : J (if ((fd_M T fl fi se va (-1) d && fd_hs va g t d) && z) = true then v else bs) (nI (d + 1))) :
    wY_extreme_128 post J (nI f) (nI g) (nI t) w bs (nI d) v (fd_b2i z) mo ath va fl fi hi mk := by
  unfold wY_extreme_128
  refine fy_matches hd hY (fd_br _ (fun c => ?_) (fun c => ?_))
  · rw [if_neg (by rw [c]; exact Bool.false_ne_true)] at h
    exact nm_r (nI_1 d) h
  · refine fy_has hd hg ht (fd_br _ (fun c2 => ?_) (fun c2 => ?_))
    · rw [if_neg (by rw [c, c2]; exact Bool.false_ne_true)] at h
      exact nm_r (nI_1 d) h
    · refine fd_br z (fun c3 => ?_) (fun c3 => ?_)
      · rw [if_neg (by rw [c, c2, c3]; exact Bool.false_ne_true)] at h
        exact nm_r (nI_1 d) h
      · rw [if_pos (by rw [c, c2, c3]; rfl)] at h
        exact nm_r (nI_1 d) h
theorem fd_ex_s {Q : Nat → Bool} {f d : Nat} {w bs : Int32} {z : Bool} (hr : ∀ e, e < d → ¬ va (6 * e + f) = -2002) (h : fd_ex Q va f w d bs)
    (hz : z = true ↔ (bs = -2002 ∨ (w = 0 ∧ ¬ bs ≤ va (6 * d + f)) ∨ (¬ w = 0 ∧ ¬ va (6 * d + f) ≤ bs))) :
    fd_ex Q va f w (d + 1) (if (Q d && z) = true then va (6 * d + f) else bs) := by
  cases cQ : Q d with
  | false =>
    rw [if_neg (by exact Bool.false_ne_true)]
    rcases h with ⟨a, ha, hQ, e, hm⟩ | ⟨hn, e⟩
    · refine Or.inl ⟨a, by omega, hQ, e, ?_⟩
      intro c hc hQc
      by_cases y : c = d
      · rw [y, cQ] at hQc; exact absurd hQc (by decide)
      · exact hm c (by omega) hQc
    · refine Or.inr ⟨?_, e⟩
      intro c hc
      by_cases y : c = d
      · rw [y]; exact cQ
      · exact hn c (by omega)
  | true =>
    rw [Bool.true_and]
    rcases h with ⟨a, ha, hQ, e, hm⟩ | ⟨hn, e⟩
    · subst e
      have hne := hr a ha
      by_cases hw : w = 0
      · have hz' : z = true ↔ ¬ va (6 * a + f) ≤ va (6 * d + f) := by
          rw [hz]
          exact ⟨fun y => y.elim (fun y => absurd y hne) (fun y => y.elim (fun y => y.2) (fun y => absurd hw y.1)), fun y => Or.inr (Or.inl ⟨hw, y⟩)⟩
        rw [Int32.le_iff_toInt_le] at hz'
        unfold fd_ex
        unfold fd_le at hm ⊢
        simp only [if_pos hw] at hm ⊢
        cases z with
        | false =>
          have g : (va (6 * a + f)).toInt ≤ (va (6 * d + f)).toInt := Classical.not_not.mp (fun y => nomatch hz'.mpr y)
          rw [if_neg (by exact Bool.false_ne_true)]
          refine Or.inl ⟨a, by omega, hQ, rfl, ?_⟩
          intro c hc hQc
          by_cases y : c = d
          · rw [y]; exact g
          · exact hm c (by omega) hQc
        | true =>
          have g := hz'.mp rfl
          rw [if_pos rfl]
          refine Or.inl ⟨d, by omega, cQ, rfl, ?_⟩
          intro c hc hQc
          by_cases y : c = d
          · rw [y]; exact Int.le_refl _
          · have := hm c (by omega) hQc
            omega
      · have hz' : z = true ↔ ¬ va (6 * d + f) ≤ va (6 * a + f) := by
          rw [hz]
          exact ⟨fun y => y.elim (fun y => absurd y hne) (fun y => y.elim (fun y => absurd y.1 hw) (fun y => y.2)), fun y => Or.inr (Or.inr ⟨hw, y⟩)⟩
        rw [Int32.le_iff_toInt_le] at hz'
        unfold fd_ex
        unfold fd_le at hm ⊢
        simp only [if_neg hw] at hm ⊢
        cases z with
        | false =>
          have g : (va (6 * d + f)).toInt ≤ (va (6 * a + f)).toInt := Classical.not_not.mp (fun y => nomatch hz'.mpr y)
          rw [if_neg (by exact Bool.false_ne_true)]
          refine Or.inl ⟨a, by omega, hQ, rfl, ?_⟩
          intro c hc hQc
          by_cases y : c = d
          · rw [y]; exact g
          · exact hm c (by omega) hQc
        | true =>
          have g := hz'.mp rfl
          rw [if_pos rfl]
          refine Or.inl ⟨d, by omega, cQ, rfl, ?_⟩
          intro c hc hQc
          by_cases y : c = d
          · rw [y]; exact Int.le_refl _
          · have := hm c (by omega) hQc
            omega
    · rw [hz.mpr (Or.inl e), if_pos rfl]
      refine Or.inl ⟨d, by omega, cQ, rfl, ?_⟩
      intro c hc hQc
      by_cases y : c = d
      · rw [y]; unfold fd_le; split <;> exact Int.le_refl _
      · rw [hn c (by omega)] at hQc; exact absurd hQc (by decide)
theorem fy_ext_72 {post : Int32 → Prop} {f g t : Nat} {w : Int32} (hf : f < 6) (hf4 : 4 ≤ f) (hg : g < 6) (ht : t < 10) (hV : fd_VR va) (hY : fd_YR T mo ath hi se)
    (h : ∀ r, fd_ex (fun d => fd_M T fl fi se va (-1) d && fd_hs va g t d) va f w 48 r → post r) :
    ∀ n d bs, d ≤ 48 → 48 < n + d → fd_ex (fun d => fd_M T fl fi se va (-1) d && fd_hs va g t d) va f w d bs → wY_extreme_72 post (nI f) (nI g) (nI t) w mo ath va fl fi hi mk n bs (nI d) := by
  have hr : ∀ e, e < 48 → ¬ va (6 * e + f) = -2002 := by
    intro e he c
    have := ((hV e he f hf).2.2 hf4).1
    rw [c, show (-2002 : Int32).toInt = -2002 from by decide] at this
    omega
  intro n
  induction n with
  | zero => intro d bs g1 g2; omega
  | succ n ih =>
    intro d bs g1 g2 hx
    refine pk_le 48 d (fun z => ?_) (fun z => ?_)
    · have : d = 48 := by omega
      subst this
      exact h _ hx
    · have S : ∀ x : Bool, (x = true ↔ (bs = -2002 ∨ (w = 0 ∧ ¬ bs ≤ va (6 * d + f)) ∨ (¬ w = 0 ∧ ¬ va (6 * d + f) ≤ bs))) → wY_extreme_128 post (wY_extreme_72 post (nI f) (nI g) (nI t) w mo ath va fl fi hi mk n) (nI f) (nI g) (nI t) w bs (nI d) (va (6 * d + f)) (fd_b2i x) mo ath va fl fi hi mk := by
        intro x hxx
        exact fy_ext_128 z hg ht hY (ih (d + 1) _ z (by omega) (fd_ex_s (fun e he => hr e (by omega)) hx hxx))
      refine ⟨fd_in6 z hf, nm_r (e' := va (6 * d + f)) (by rw [fd_cl6 z hf]) ?_⟩
      refine br_c (fun y => S true ⟨fun _ => Or.inl y, fun _ => rfl⟩) (fun y => ?_)
      refine br_c (fun hw => br_c (fun a => S false ?_) (fun a => S true ?_)) (fun hw => br_c (fun a => S false ?_) (fun a => S true ?_))
      · exact ⟨(fun b => nomatch b), fun b => b.elim (fun b => absurd b y) (fun b => b.elim (fun b => absurd a b.2) (fun b => absurd hw b.1))⟩
      · exact ⟨fun _ => Or.inr (Or.inl ⟨hw, a⟩), fun _ => rfl⟩
      · exact ⟨(fun b => nomatch b), fun b => b.elim (fun b => absurd b y) (fun b => b.elim (fun b => absurd b.1 hw) (fun b => absurd a b.2))⟩
      · exact ⟨fun _ => Or.inr (Or.inr ⟨hw, a⟩), fun _ => rfl⟩
end
end
section
/-! the relation -/
def fd_Rel (th : Int64) (mn : Nat) (wt wg : Nat → Int64) (va od fl fi se : Nat → Int32) (pa : Nat → Int64) (mo : Int32) (ath hi : Nat → Int32) : Prop :=
  fd_Cor th mn wt wg va od ∧ (∀ f, f < 6 → fd_Pas th va fl fi se pa f) ∧ fd_F3 fi ∧ fd_YR (fd_bl th) mo ath hi se
/-- documents, values and filters are the same; the words, the orders and who passes are what the picture says -/
def i_Rel (_ : Nat) (u : SX) (v : SY) : Prop :=
  ∃ (th : Int64) (mn : Nat) (wt wg : Nat → Int64) (va od fl fi se : Nat → Int32) (pa : Nat → Int64) (mo : Int32) (ath hi mk : Nat → Int32),
    u = (th, nI mn, wt, wg, va, od, fl, fi, se, pa) ∧ v = (mo, ath, va, fl, fi, hi, mk) ∧ fd_Rel th mn wt wg va od fl fi se pa mo ath hi
theorem i_up {k : Nat} {u : SX} {v : SY} (h : i_Rel k u v) : i_Rel (k + 4) u v := h
theorem fd_mk {k : Nat} {th : Int64} {mn : Nat} {wt wg : Nat → Int64} {va od fl fi se : Nat → Int32} {pa : Nat → Int64} {mo : Int32} {ath hi mk : Nat → Int32}
    (R : fd_Rel th mn wt wg va od fl fi se pa mo ath hi) : i_Rel k (th, nI mn, wt, wg, va, od, fl, fi, se, pa) (mo, ath, va, fl, fi, hi, mk) :=
  ⟨th, mn, wt, wg, va, od, fl, fi, se, pa, mo, ath, hi, mk, rfl, rfl, R⟩
theorem fd_el {k : Nat} {u : SX} {v : SY} {P : SX → SY → Prop}
    (h : ∀ (th : Int64) (mn : Nat) (wt wg : Nat → Int64) (va od fl fi se : Nat → Int32) (pa : Nat → Int64) (mo : Int32) (ath hi mk : Nat → Int32), fd_Rel th mn wt wg va od fl fi se pa mo ath hi → P (th, nI mn, wt, wg, va, od, fl, fi, se, pa) (mo, ath, va, fl, fi, hi, mk))
    (I : i_Rel k u v) : P u v := by
  obtain ⟨th, mn, wt, wg, va, od, fl, fi, se, pa, mo, ath, hi, mk, rfl, rfl, R⟩ := I
  exact h th mn wt wg va od fl fi se pa mo ath hi mk R
theorem i_vc0 : wpX_init (fun u => wpY_init (fun v => i_Rel 0 u v)) := by
  refine ⟨0, 0, fun _ => 0, fun _ => 0, fun _ => 0, fun _ => 0, fun _ => 0, fun _ => 0, fun _ => 0, fun _ => 0, 0, fun _ => 0, fun _ => 0, fun _ => 0, rfl, rfl, ⟨fun e _ => fd_bl0 e, ?_, ?_, ?_, ?_, ?_⟩, ?_, ⟨0, by decide, rfl⟩, ?_, rfl, rfl, rfl⟩
  · exact (fd_cnt_0 (fun i _ => fd_bl0 i)).symm
  · intro f _ t _ e
    unfold fd_hold
    rw [fd_bl0, Bool.false_and]
    split <;> exact fd_bl0 e
  · exact ⟨by decide, fun _ => 0, fun i hi => absurd hi (Nat.not_lt_zero i), fun i j _ hj => absurd hj (Nat.not_lt_zero j), fun d => ⟨fun h => absurd h (by rw [fd_bl0]; decide), fun ⟨i, hi, _⟩ => absurd hi (Nat.not_lt_zero i)⟩⟩
  · exact ⟨by decide, fun _ => 0, fun i hi => absurd hi (Nat.not_lt_zero i), fun i j _ hj => absurd hj (Nat.not_lt_zero j), fun d => ⟨fun h => absurd h (by rw [fd_bl0]; decide), fun ⟨i, hi, _⟩ => absurd hi (Nat.not_lt_zero i)⟩⟩
  · intro e _ f _
    show fd_Fit f 0
    exact ⟨fun _ => ⟨0, by decide, rfl⟩, fun _ => ⟨0, by decide, rfl⟩, fun _ => ⟨by decide, by decide⟩⟩
  · intro f _ e
    rw [fd_bl0]; rfl
  · intro d _
    rw [fd_bl0]; rfl
theorem fd_ix (x : Int32) {n : Nat} (hn : n < 2 ^ 31) : (x < 0 ∨ nI n ≤ x) ∨ ∃ j : Nat, j < n ∧ x = nI j := by
  rcases pk_ix x hn with h | h | h
  · exact Or.inl (Or.inl h)
  · exact Or.inl (Or.inr h)
  · exact Or.inr h
/-- out of a range, as the reference asks it -/
theorem fd_o1 {x y : Int32} {A B : Prop} (m : Nat) (h : x < 0 ∨ nI (m + 1) ≤ x) (hA : A) (hy : y = nI m := by rfl) (hm : m + 1 < 2 ^ 31 := by decide) : (x < 0 → A) ∧ (¬ x < 0 → ((x ≤ y → B) ∧ (¬ x ≤ y → A))) := by
  subst hy
  by_cases z : x < 0
  · exact br_t z hA
  · refine br_f z (br_f ?_ hA)
    have := (fd_lt2 x (a := m) rfl hm).mp (h.resolve_left z)
    exact Int32.not_le.mpr this
theorem fd_o2 {x y : Int32} {A B : Prop} (m : Nat) (h : x < 0 ∨ nI (m + 1) ≤ x) (hA : A) (hy : y = nI m := by rfl) (hm : m + 1 < 2 ^ 31 := by decide) : (x < 0 → A) ∧ (¬ x < 0 → ((y < x → A) ∧ (¬ y < x → B))) := by
  subst hy
  by_cases z : x < 0
  · exact br_t z hA
  · exact br_f z (br_t ((fd_lt2 x (a := m) rfl hm).mp (h.resolve_left z)) hA)
theorem fd_i1 {y : Int32} {A B : Prop} {j : Nat} (m : Nat) (h : j < m + 1) (hB : B) (hy : y = nI m := by rfl) (hm : m + 1 < 2 ^ 31 := by decide) : (nI j < 0 → A) ∧ (¬ nI j < 0 → ((nI j ≤ y → B) ∧ (¬ nI j ≤ y → A))) := by
  subst hy
  exact br_f (nI_pos (by omega)) (br_t (nI_le (by omega) (by omega)) hB)
theorem fd_i2 {y : Int32} {A B : Prop} {j : Nat} (m : Nat) (h : j < m + 1) (hB : B) (hy : y = nI m := by rfl) (hm : m + 1 < 2 ^ 31 := by decide) : (nI j < 0 → A) ∧ (¬ nI j < 0 → ((y < nI j → A) ∧ (¬ y < nI j → B))) := by
  subst hy
  exact br_f (nI_pos (by omega)) (br_f (nI_nlt (by omega) (by omega)) hB)
theorem fd_ord {th : Int64} {mn : Nat} {wt wg : Nat → Int64} {va od : Nat → Int32} {f b : Nat} (hC : fd_Cor th mn wt wg va od) (hf : fd_fb f b) : fd_Ord f b (fd_bl th) od mn va := by
  obtain ⟨_, _, _, h4, h5, _⟩ := hC
  rcases hf with ⟨rfl, rfl⟩ | ⟨rfl, rfl⟩
  · exact h4
  · exact h5
theorem i_vc_documents {k : Nat} {u : SX} {v : SY} (I : i_Rel k u v) (hk : k + 4 ≤ 2048) : wpX_documents (fun r => wpY_documents (fun r' => r' = r ∧ i_Rel (k + 4) u v) v) u := by
  refine fd_el (P := fun u v => wpX_documents (fun r => wpY_documents (fun r' => r' = r ∧ i_Rel (k + 4) u v) v) u) ?_ I
  intro th mn wt wg va od fl fi se pa mo ath hi mk R
  unfold wpX_documents
  dsimp only
  exact fy_documents R.2.2.2.1 ⟨by rw [← R.1.2.1], fd_mk R⟩
theorem i_vc_valueOf {k : Nat} {u : SX} {v : SY} (I : i_Rel k u v) (hk : k + 4 ≤ 2048) (v1 : Int32) (v2 : Int32) : wpX_valueOf (fun r => wpY_valueOf (fun r' => r' = r ∧ i_Rel (k + 4) u v) v v1 v2) u v1 v2 := by
  refine fd_el (P := fun u v => wpX_valueOf (fun r => wpY_valueOf (fun r' => r' = r ∧ i_Rel (k + 4) u v) v v1 v2) u v1 v2) ?_ I
  intro th mn wt wg va od fl fi se pa mo ath hi mk R
  have Q : i_Rel (k + 4) (th, nI mn, wt, wg, va, od, fl, fi, se, pa) (mo, ath, va, fl, fi, hi, mk) := fd_mk R
  have hY := R.2.2.2.1
  unfold wpX_valueOf wpY_valueOf
  dsimp only
  rcases fd_doc (fd_bl th) v1 with h | ⟨d, hd, rfl, hT⟩
  · refine fx_doc0 h ?_
    refine br_t rfl ?_
    refine fy_doc0 hY h ?_
    exact br_t rfl ⟨rfl, Q⟩
  · refine fx_doc hd hT ?_
    refine br_f (by decide) ?_
    rcases fd_ix v2 (n := 6) (by decide) with h | ⟨f, hf, rfl⟩
    · refine fx_isField0 h ?_
      refine br_t rfl ?_
      refine fy_doc hY hd hT ?_
      refine br_f (by decide) ?_
      exact fd_o1 5 h ⟨rfl, Q⟩
    · refine fx_isField hf ?_
      refine br_f (by decide) ?_
      refine ⟨fd_in6 hd hf, ?_⟩
      refine fy_doc hY hd hT ?_
      refine br_f (by decide) ?_
      exact fd_i1 5 hf ⟨fd_in6 hd hf, rfl, Q⟩
theorem i_vc_matching {k : Nat} {u : SX} {v : SY} (I : i_Rel k u v) (hk : k + 4 ≤ 2048) : wpX_matching (fun r => wpY_matching (fun r' => r' = r ∧ i_Rel (k + 4) u v) v) u := by
  refine fd_el (P := fun u v => wpX_matching (fun r => wpY_matching (fun r' => r' = r ∧ i_Rel (k + 4) u v) v) u) ?_ I
  intro th mn wt wg va od fl fi se pa mo ath hi mk R
  exact fx_matching R.1.1 R.2.1 (fy_matching R.2.2.2 ⟨rfl, fd_mk R⟩)
theorem i_vc_facet {k : Nat} {u : SX} {v : SY} (I : i_Rel k u v) (hk : k + 4 ≤ 2048) (v1 : Int32) (v2 : Int32) : wpX_facet (fun r => wpY_facet (fun r' => r' = r ∧ i_Rel (k + 4) u v) v v1 v2) u v1 v2 := by
  refine fd_el (P := fun u v => wpX_facet (fun r => wpY_facet (fun r' => r' = r ∧ i_Rel (k + 4) u v) v v1 v2) u v1 v2) ?_ I
  intro th mn wt wg va od fl fi se pa mo ath hi mk R
  have Q : i_Rel (k + 4) (th, nI mn, wt, wg, va, od, fl, fi, se, pa) (mo, ath, va, fl, fi, hi, mk) := fd_mk R
  rcases fd_ix v1 (n := 4) (by decide) with h | ⟨f, hf, rfl⟩
  · unfold wpX_facet wpY_facet
    dsimp only
    refine fx_isGroup0 h ?_
    refine br_t rfl ?_
    refine fy_isGroup0 h ?_
    exact br_t rfl ⟨rfl, Q⟩
  · rcases fd_ix v2 (n := fd_lim f) (by rcases fd_limc f with z | z <;> omega) with h | ⟨t, ht, rfl⟩
    · unfold wpX_facet wpY_facet
      dsimp only
      refine fx_isGroup hf ?_
      refine br_f (by decide) ?_
      refine fx_isTermOf0 hf h ?_
      refine br_t rfl ?_
      refine fy_isGroup hf ?_
      refine br_f (by decide) ?_
      refine fy_isTerm0 (by omega) h ?_
      exact br_t rfl ⟨rfl, Q⟩
    · refine fx_facet hf ht R.1 R.2.1 ?_
      unfold wpY_facet
      dsimp only
      refine fy_isGroup hf ?_
      refine br_f (by decide) ?_
      refine fy_isTerm (by omega) ht ?_
      refine br_f (by decide) ?_
      exact fy_facetOf (by omega) (fd_lim10 ht) R.2.2.2 ⟨rfl, Q⟩
theorem i_vc_topTerm {k : Nat} {u : SX} {v : SY} (I : i_Rel k u v) (hk : k + 4 ≤ 2048) (v1 : Int32) (v2 : Int32) : wpX_topTerm (fun r => wpY_topTerm (fun r' => r' = r ∧ i_Rel (k + 4) u v) v v1 v2) u v1 v2 := by
  refine fd_el (P := fun u v => wpX_topTerm (fun r => wpY_topTerm (fun r' => r' = r ∧ i_Rel (k + 4) u v) v v1 v2) u v1 v2) ?_ I
  intro th mn wt wg va od fl fi se pa mo ath hi mk R
  have Q : i_Rel (k + 4) (th, nI mn, wt, wg, va, od, fl, fi, se, pa) (mo, ath, va, fl, fi, hi, mk) := fd_mk R
  rcases fd_ix v1 (n := 4) (by decide) with h | ⟨f, hf, rfl⟩
  · unfold wpX_topTerm wpY_topTerm
    dsimp only
    refine fx_isGroup0 h ?_
    refine br_t rfl ?_
    refine fy_isGroup0 h ?_
    exact br_t rfl ⟨rfl, Q⟩
  · exact fx_topTerm hf R.1 R.2.1 (fy_topTerm hf R.2.2.2 ⟨rfl, Q⟩)
theorem i_vc_between {k : Nat} {u : SX} {v : SY} (I : i_Rel k u v) (hk : k + 4 ≤ 2048) (v1 : Int32) (v2 : Int32) (v3 : Int32) : wpX_between (fun r => wpY_between (fun r' => r' = r ∧ i_Rel (k + 4) u v) v v1 v2 v3) u v1 v2 v3 := by
  refine fd_el (P := fun u v => wpX_between (fun r => wpY_between (fun r' => r' = r ∧ i_Rel (k + 4) u v) v v1 v2 v3) u v1 v2 v3) ?_ I
  intro th mn wt wg va od fl fi se pa mo ath hi mk R
  have Q : i_Rel (k + 4) (th, nI mn, wt, wg, va, od, fl, fi, se, pa) (mo, ath, va, fl, fi, hi, mk) := fd_mk R
  rcases fd_num v1 with ⟨f, b, hf, rfl⟩ | ⟨h4, h5⟩
  · refine fx_between hf (fd_ord R.1 hf) R.1.1 R.2.1 ?_
    unfold wpY_between
    dsimp only
    refine fy_isNum hf ?_
    refine br_f (by decide) ?_
    exact ⟨49, fy_between_17 (fd_fb6 hf) R.2.2.2 ⟨rfl, Q⟩ 49 0 (by omega) (by omega)⟩
  · unfold wpX_between wpY_between
    dsimp only
    refine fx_isNum0 h4 h5 ?_
    refine br_t rfl ?_
    refine fy_isNum0 h4 h5 ?_
    exact br_t rfl ⟨rfl, Q⟩
theorem i_vc_ranked {k : Nat} {u : SX} {v : SY} (I : i_Rel k u v) (hk : k + 4 ≤ 2048) (v1 : Int32) (v2 : Int32) : wpX_ranked (fun r => wpY_ranked (fun r' => r' = r ∧ i_Rel (k + 4) u v) v v1 v2) u v1 v2 := by
  refine fd_el (P := fun u v => wpX_ranked (fun r => wpY_ranked (fun r' => r' = r ∧ i_Rel (k + 4) u v) v v1 v2) u v1 v2) ?_ I
  intro th mn wt wg va od fl fi se pa mo ath hi mk R
  have Q : i_Rel (k + 4) (th, nI mn, wt, wg, va, od, fl, fi, se, pa) (mo, ath, va, fl, fi, hi, mk) := fd_mk R
  unfold wpX_ranked wpY_ranked
  dsimp only
  rcases fd_num v1 with ⟨f, b, hf, rfl⟩ | ⟨h4, h5⟩
  · refine fx_isNum hf ?_
    refine br_f (by decide) ?_
    refine fx_docAt hf (fd_ord R.1 hf) R.2.1 ?_
    intro r hr
    have Y : ∀ {post : Int32 → Prop}, post r → wpY_inOrder post (mo, ath, va, fl, fi, hi, mk) (nI f) 0 v2 := fun h => fy_inOrder (fd_fb6 hf) R.2.2.2 (fun r' hr' => by rw [fd_an_u hr hr']; exact h)
    rcases hr with ⟨d, hd, _, _, rfl⟩ | ⟨_, rfl⟩
    · refine br_t (nI_pos' (by omega)) ⟨fd_in6 hd (fd_fb6 hf), ?_⟩
      refine fy_isNum hf ?_
      refine br_f (by decide) ?_
      refine Y ?_
      exact br_t (nI_pos' (by omega)) ⟨fd_in6 hd (fd_fb6 hf), rfl, Q⟩
    · refine br_f (by decide) ?_
      refine fy_isNum hf ?_
      refine br_f (by decide) ?_
      refine Y ?_
      exact br_f (by decide) ⟨rfl, Q⟩
  · refine fx_isNum0 h4 h5 ?_
    refine br_t rfl ?_
    refine fy_isNum0 h4 h5 ?_
    exact br_t rfl ⟨rfl, Q⟩
theorem i_vc_sorted {k : Nat} {u : SX} {v : SY} (I : i_Rel k u v) (hk : k + 4 ≤ 2048) (v1 : Int32) (v2 : Int32) (v3 : Int32) : wpX_sorted (fun r => wpY_sorted (fun r' => r' = r ∧ i_Rel (k + 4) u v) v v1 v2 v3) u v1 v2 v3 := by
  refine fd_el (P := fun u v => wpX_sorted (fun r => wpY_sorted (fun r' => r' = r ∧ i_Rel (k + 4) u v) v v1 v2 v3) u v1 v2 v3) ?_ I
  intro th mn wt wg va od fl fi se pa mo ath hi mk R
  have Q : i_Rel (k + 4) (th, nI mn, wt, wg, va, od, fl, fi, se, pa) (mo, ath, va, fl, fi, hi, mk) := fd_mk R
  unfold wpX_sorted wpY_sorted
  dsimp only
  rcases fd_num v1 with ⟨f, b, hf, rfl⟩ | ⟨h4, h5⟩
  · refine fx_isNum hf ?_
    refine br_f (by decide) ?_
    have F : ∀ (w : Int32) (r : Int32), (w = 0 ∨ w = 1) → fd_an (fd_M (fd_bl th) fl fi se va (-1)) va f w v3 r → wX_sorted_41 (fun r => wpY_isNumberField (fun r_1 => (r_1 = 0 → -2 = r ∧ i_Rel (k + 4) (th, nI mn, wt, wg, va, od, fl, fi, se, pa) (mo, ath, va, fl, fi, hi, mk)) ∧ (¬ r_1 = 0 → (w = 0 → wY_sorted_23 (fun r' => r' = r ∧ i_Rel (k + 4) (th, nI mn, wt, wg, va, od, fl, fi, se, pa) (mo, ath, va, fl, fi, hi, mk)) (nI f) w v3 mo ath va fl fi hi mk) ∧ (¬ w = 0 → (w = 1 → wY_sorted_23 (fun r' => r' = r ∧ i_Rel (k + 4) (th, nI mn, wt, wg, va, od, fl, fi, se, pa) (mo, ath, va, fl, fi, hi, mk)) (nI f) w v3 mo ath va fl fi hi mk) ∧ (¬ w = 1 → -5 = r ∧ i_Rel (k + 4) (th, nI mn, wt, wg, va, od, fl, fi, se, pa) (mo, ath, va, fl, fi, hi, mk))))) (mo, ath, va, fl, fi, hi, mk) (nI f)) r th (nI mn) wt wg va od fl fi se pa := by
      intro w r hw hr
      have Y : ∀ {post : Int32 → Prop}, post r → wpY_inOrder post (mo, ath, va, fl, fi, hi, mk) (nI f) w v3 := fun h => fy_inOrder (fd_fb6 hf) R.2.2.2 (fun r' hr' => by rw [fd_an_u hr hr']; exact h)
      have G : ∀ r2, wY_sorted_23 (fun r' => r' = r2 ∧ i_Rel (k + 4) (th, nI mn, wt, wg, va, od, fl, fi, se, pa) (mo, ath, va, fl, fi, hi, mk)) (nI f) w v3 mo ath va fl fi hi mk → wpY_isNumberField (fun r_1 => (r_1 = 0 → -2 = r2 ∧ i_Rel (k + 4) (th, nI mn, wt, wg, va, od, fl, fi, se, pa) (mo, ath, va, fl, fi, hi, mk)) ∧ (¬ r_1 = 0 → (w = 0 → wY_sorted_23 (fun r' => r' = r2 ∧ i_Rel (k + 4) (th, nI mn, wt, wg, va, od, fl, fi, se, pa) (mo, ath, va, fl, fi, hi, mk)) (nI f) w v3 mo ath va fl fi hi mk) ∧ (¬ w = 0 → (w = 1 → wY_sorted_23 (fun r' => r' = r2 ∧ i_Rel (k + 4) (th, nI mn, wt, wg, va, od, fl, fi, se, pa) (mo, ath, va, fl, fi, hi, mk)) (nI f) w v3 mo ath va fl fi hi mk) ∧ (¬ w = 1 → -5 = r2 ∧ i_Rel (k + 4) (th, nI mn, wt, wg, va, od, fl, fi, se, pa) (mo, ath, va, fl, fi, hi, mk))))) (mo, ath, va, fl, fi, hi, mk) (nI f) := by
        intro r2 hr2
        refine fy_isNum hf ?_
        refine br_f (by decide) ?_
        exact ⟨fun _ => hr2, fun w0 => ⟨fun _ => hr2, fun w1 => absurd hw (fun y => y.elim w0 w1)⟩⟩
      unfold wX_sorted_41
      rcases hr with ⟨d, hd, _, _, rfl⟩ | ⟨_, rfl⟩
      · refine br_t (nI_pos' (by omega)) (G _ ?_)
        unfold wY_sorted_23
        refine Y ?_
        exact br_t (nI_pos' (by omega)) ⟨rfl, Q⟩
      · refine br_f (by decide) (G _ ?_)
        unfold wY_sorted_23
        refine Y ?_
        exact br_f (by decide) ⟨rfl, Q⟩
    rcases fd_ix v2 (n := 2) (by decide) with h | ⟨w, hw, rfl⟩
    · refine fd_o1 1 h ?_
      refine fy_isNum hf ?_
      refine br_f (by decide) ?_
      have n0 : ¬ v2 = 0 := by
        intro e; rw [e] at h; revert h; decide
      have n1 : ¬ v2 = 1 := by
        intro e; rw [e] at h; revert h; decide
      exact br_f n0 (br_f n1 ⟨rfl, Q⟩)
    · refine fd_i1 1 hw ?_
      refine pk_eq w 0 (fun z => ?_) (fun z => ?_)
      · subst z
        refine fx_docAt hf (fd_ord R.1 hf) R.2.1 ?_
        intro r hr
        exact F (nI 0) r (Or.inl rfl) hr
      · have : w = 1 := by omega
        subst this
        refine fx_fall hf (fd_ord R.1 hf) R.2.1 ?_
        intro r hr
        exact F (nI 1) r (Or.inr rfl) hr
  · refine fx_isNum0 h4 h5 ?_
    refine br_t rfl ?_
    refine fy_isNum0 h4 h5 ?_
    exact br_t rfl ⟨rfl, Q⟩
end
section
/-! the other questions -/
theorem i_vc_sum {k : Nat} {u : SX} {v : SY} (I : i_Rel k u v) (hk : k + 4 ≤ 2048) (v1 : Int32) (v2 : Int32) (v3 : Int32) : wpX_sum (fun r => wpY_sum (fun r' => r' = r ∧ i_Rel (k + 4) u v) v v1 v2 v3) u v1 v2 v3 := by
  refine fd_el (P := fun u v => wpX_sum (fun r => wpY_sum (fun r' => r' = r ∧ i_Rel (k + 4) u v) v v1 v2 v3) u v1 v2 v3) ?_ I
  intro th mn wt wg va od fl fi se pa mo ath hi mk R
  have Q : i_Rel (k + 4) (th, nI mn, wt, wg, va, od, fl, fi, se, pa) (mo, ath, va, fl, fi, hi, mk) := fd_mk R
  rcases fd_ix v1 (n := 4) (by decide) with h | ⟨g, hg, rfl⟩
  · unfold wpX_sum wpY_sum
    dsimp only
    refine fx_isGroup0 h ?_
    refine br_t rfl ?_
    refine fy_isGroup0 h ?_
    exact br_t rfl ⟨rfl, Q⟩
  · rcases fd_num v3 with ⟨f, b, hf, rfl⟩ | ⟨h4, h5⟩
    · rcases fd_ix v2 (n := fd_lim g) (by rcases fd_limc g with z | z <;> omega) with h | ⟨t, ht, rfl⟩
      · unfold wpX_sum wpY_sum
        dsimp only
        refine fx_isGroup hg ?_
        refine br_f (by decide) ?_
        refine fx_isNum hf ?_
        refine br_f (by decide) ?_
        refine fx_isTermOf0 hg h ?_
        refine br_t rfl ?_
        refine fy_isGroup hg ?_
        refine br_f (by decide) ?_
        refine fy_isNum hf ?_
        refine br_f (by decide) ?_
        refine fy_isTerm0 (by omega) h ?_
        exact br_t rfl ⟨rfl, Q⟩
      · refine fx_sum hg ht hf R.1 R.2.1 ?_
        unfold wpY_sum
        dsimp only
        refine fy_isGroup hg ?_
        refine br_f (by decide) ?_
        refine fy_isNum hf ?_
        refine br_f (by decide) ?_
        refine fy_isTerm (by omega) ht ?_
        refine br_f (by decide) ?_
        exact ⟨49, fy_sum_37 (by omega) (fd_lim10 ht) (fd_fb6 hf) R.2.2.2 ⟨rfl, Q⟩ 49 0 (by omega) (by omega)⟩
    · unfold wpX_sum wpY_sum
      dsimp only
      refine fx_isGroup hg ?_
      refine br_f (by decide) ?_
      refine fx_isNum0 h4 h5 ?_
      refine br_t rfl ?_
      refine fy_isGroup hg ?_
      refine br_f (by decide) ?_
      refine fy_isNum0 h4 h5 ?_
      exact br_t rfl ⟨rfl, Q⟩
theorem fd_dv {W : Nat} {B : Int32 → Int32 → Int32 → Prop} (hW : W < 2 ^ 31) (h : B (nI (W / 100)) (nI (W / 10 % 10)) (nI (W % 10))) :
    ¬ (100 : Int32) = 0 ∧ (∀ x3 : Int32, x3 = nI W / 100 → (¬ (10 : Int32) = 0 ∧ (¬ (10 : Int32) = 0 ∧ (∀ x4 : Int32, x4 = (nI W / 10) - (nI W / 10) / 10 * 10 → (¬ (10 : Int32) = 0 ∧ (∀ x5 : Int32, x5 = nI W - nI W / 10 * 10 → B x3 x4 x5)))))) := by
  have e1 : nI W / 100 = nI (W / 100) := pk_div (d := 100) hW (by decide) (by decide)
  have e2 : nI W / 10 = nI (W / 10) := pk_div (d := 10) hW (by decide) (by decide)
  have e3 : nI (W / 10) - nI (W / 10) / 10 * 10 = nI (W / 10 % 10) := pk_rem (d := 10) (by omega) (by decide) (by decide)
  have e4 : nI W - nI W / 10 * 10 = nI (W % 10) := pk_rem (d := 10) hW (by decide) (by decide)
  refine ⟨by decide, nm_r e1 ⟨by decide, by decide, ?_⟩⟩
  rw [e4, e2, e3]
  exact nm_e ⟨by decide, nm_e h⟩
theorem i_vc_extreme {k : Nat} {u : SX} {v : SY} (I : i_Rel k u v) (hk : k + 4 ≤ 2048) (v1 : Int32) (v2 : Int32) : wpX_extreme (fun r => wpY_extreme (fun r' => r' = r ∧ i_Rel (k + 4) u v) v v1 v2) u v1 v2 := by
  refine fd_el (P := fun u v => wpX_extreme (fun r => wpY_extreme (fun r' => r' = r ∧ i_Rel (k + 4) u v) v v1 v2) u v1 v2) ?_ I
  intro th mn wt wg va od fl fi se pa mo ath hi mk R
  have Q : i_Rel (k + 4) (th, nI mn, wt, wg, va, od, fl, fi, se, pa) (mo, ath, va, fl, fi, hi, mk) := fd_mk R
  unfold wpX_extreme wpY_extreme
  dsimp only
  by_cases hn : v1 < 0
  · refine ⟨by decide, nm_e ⟨by decide, by decide, nm_e ⟨by decide, nm_e (br_t hn ?_)⟩⟩⟩
    exact ⟨by decide, nm_e ⟨by decide, by decide, nm_e ⟨by decide, nm_e (br_t hn ⟨rfl, Q⟩)⟩⟩⟩
  · obtain ⟨W, hW, rfl⟩ := nI_of hn
    refine fd_dv hW ?_
    refine br_f hn ?_
    rcases Nat.lt_or_ge (W / 100) 4 with hg | hg
    · refine fx_isGroup hg ?_
      refine br_f (by decide) ?_
      rcases fd_num v2 with ⟨f, b, hf, rfl⟩ | ⟨h4, h5⟩
      · refine fx_isNum hf ?_
        refine br_f (by decide) ?_
        refine pk_le (W % 10) 1 (fun hw => ?_) (fun hw => ?_)
        · rcases Nat.lt_or_ge (W / 10 % 10) (fd_lim (W / 100)) with ht | ht
          · refine fx_isTermOf hg ht ?_
            refine br_f (by decide) ?_
            refine fx_beside R.2.1 ?_
            intro s hs
            refine fx_holders hg ht ?_
            refine nm_e ?_
            refine nm_r (fd_base hf) ?_
            obtain ⟨hm, o, ho, hO, hc⟩ := fd_ord R.1 hf
            have e : fd_bl (s &&& fd_hold wt wg (W / 100) (W / 10 % 10)) = fun d => fd_M (fd_bl th) fl fi se va (-1) d && fd_hs va (W / 100) (W / 10 % 10) d := by
              funext e
              rw [fd_bla, hs e, R.1.2.2.1 (W / 100) hg (W / 10 % 10) ht e]
              exact fd_Mh
            refine ⟨mn + 1, fx_ext_87 hf hm ho hO ?_ ?_ (mn + 1) 0 (by omega) (by omega) ?_⟩
            · intro d hd
              rw [e, Bool.and_eq_true] at hd
              exact (hc d).mp (fd_MT hd.1)
            · rw [e]
              intro r hr
              refine fd_dv hW ?_
              refine br_f hn ?_
              refine fy_isGroup hg ?_
              refine br_f (by decide) ?_
              refine fy_isNum hf ?_
              refine br_f (by decide) ?_
              refine br_t (nI_le (b := 1) hw (by decide)) ?_
              refine fy_isTerm (by omega) ht ?_
              refine br_f (by decide) ?_
              exact ⟨49, fy_ext_72 (fd_fb6 hf) (by unfold fd_fb at hf; omega) (by omega) (by omega) R.1.2.2.2.2.2 R.2.2.2 (fun r' hr' => ⟨fd_ex_u hr hr', Q⟩) 49 0 (-2002) (by omega) (by omega) (Or.inr ⟨fun d hd => absurd hd (Nat.not_lt_zero d), rfl⟩)⟩
            · intro j hj hj2
              split at hj2 <;> omega
          · refine fx_isTermOf0 hg (Or.inr (nI_le ht (by omega))) ?_
            refine br_t rfl ?_
            refine fd_dv hW ?_
            refine br_f hn ?_
            refine fy_isGroup hg ?_
            refine br_f (by decide) ?_
            refine fy_isNum hf ?_
            refine br_f (by decide) ?_
            refine br_t (nI_le (b := 1) hw (by decide)) ?_
            refine fy_isTerm0 (by omega) (Or.inr (nI_le ht (by omega))) ?_
            exact br_t rfl ⟨rfl, Q⟩
        · refine fd_dv hW ?_
          refine br_f hn ?_
          refine fy_isGroup hg ?_
          refine br_f (by decide) ?_
          refine fy_isNum hf ?_
          refine br_f (by decide) ?_
          exact br_f (nI_ge (a := 1) hw (by omega)) ⟨rfl, Q⟩
      · refine fx_isNum0 h4 h5 ?_
        refine br_t rfl ?_
        refine fd_dv hW ?_
        refine br_f hn ?_
        refine fy_isGroup hg ?_
        refine br_f (by decide) ?_
        refine fy_isNum0 h4 h5 ?_
        exact br_t rfl ⟨rfl, Q⟩
    · refine fx_isGroup0 (Or.inr (nI_le hg (by omega))) ?_
      refine br_t rfl ?_
      refine fd_dv hW ?_
      refine br_f hn ?_
      refine fy_isGroup0 (Or.inr (nI_le hg (by omega))) ?_
      exact br_t rfl ⟨rfl, Q⟩
theorem i_vc_different {k : Nat} {u : SX} {v : SY} (I : i_Rel k u v) (hk : k + 4 ≤ 2048) (v1 : Int32) : wpX_different (fun r => wpY_different (fun r' => r' = r ∧ i_Rel (k + 4) u v) v v1) u v1 := by
  refine fd_el (P := fun u v => wpX_different (fun r => wpY_different (fun r' => r' = r ∧ i_Rel (k + 4) u v) v v1) u v1) ?_ I
  intro th mn wt wg va od fl fi se pa mo ath hi mk R
  have Q : i_Rel (k + 4) (th, nI mn, wt, wg, va, od, fl, fi, se, pa) (mo, ath, va, fl, fi, hi, mk) := fd_mk R
  rcases fd_ix v1 (n := 6) (by decide) with h | ⟨f, hf, rfl⟩
  · unfold wpX_different wpY_different
    dsimp only
    refine fx_isField0 h ?_
    refine br_t rfl ?_
    exact fd_o1 5 h ⟨rfl, Q⟩
  · refine fx_different hf R.2.1 ?_
    unfold wpY_different
    dsimp only
    exact fd_i1 5 hf ⟨49, fy_different_16 hf R.2.2.2 ⟨rfl, Q⟩ 49 0 (by omega) (by omega)⟩
theorem i_vc_pairs {k : Nat} {u : SX} {v : SY} (I : i_Rel k u v) (hk : k + 4 ≤ 2048) (v1 : Int32) (v2 : Int32) : wpX_pairs (fun r => wpY_pairs (fun r' v' => r' = r ∧ i_Rel (k + 4) u v') v v1 v2) u v1 v2 := by
  refine fd_el (P := fun u v => wpX_pairs (fun r => wpY_pairs (fun r' v' => r' = r ∧ i_Rel (k + 4) u v') v v1 v2) u v1 v2) ?_ I
  intro th mn wt wg va od fl fi se pa mo ath hi mk R
  have Q : ∀ w, i_Rel (k + 4) (th, nI mn, wt, wg, va, od, fl, fi, se, pa) (mo, ath, va, fl, fi, hi, w) := fun w => fd_mk R
  rcases fd_ix v1 (n := 3) (by decide) with h | ⟨f, hf, rfl⟩
  · unfold wpX_pairs wpY_pairs
    dsimp only
    refine fx_isTermField0 h ?_
    refine br_t rfl ?_
    exact fd_o2 2 h ⟨rfl, Q mk⟩
  · rcases fd_ix v2 (n := 3) (by decide) with h | ⟨o, ho, rfl⟩
    · unfold wpX_pairs wpY_pairs
      dsimp only
      refine fx_isTermField hf ?_
      refine br_f (by decide) ?_
      refine fx_isTermField0 h ?_
      refine br_t rfl ?_
      refine fd_i2 2 hf ?_
      exact fd_o1 2 h ⟨rfl, Q mk⟩
    · refine fx_pairs hf ho R.1 R.2.1 ?_
      unfold wpY_pairs
      dsimp only
      refine fd_i2 2 hf ?_
      refine fd_i1 2 ho ?_
      exact ⟨101, fy_pairs_23 hf ho R.1.2.2.2.2.2 R.2.2.2 (fun w => ⟨rfl, Q w⟩) 101 0 mk (by omega) (by omega) (fun p hp => absurd hp (Nat.not_lt_zero p))⟩
theorem i_vc_box {k : Nat} {u : SX} {v : SY} (I : i_Rel k u v) (hk : k + 4 ≤ 2048) (v1 : Int32) (v2 : Int32) (v3 : Int32) : wpX_box (fun r => wpY_box (fun r' => r' = r ∧ i_Rel (k + 4) u v) v v1 v2 v3) u v1 v2 v3 := by
  refine fd_el (P := fun u v => wpX_box (fun r => wpY_box (fun r' => r' = r ∧ i_Rel (k + 4) u v) v v1 v2 v3) u v1 v2 v3) ?_ I
  intro th mn wt wg va od fl fi se pa mo ath hi mk R
  have Q : i_Rel (k + 4) (th, nI mn, wt, wg, va, od, fl, fi, se, pa) (mo, ath, va, fl, fi, hi, mk) := fd_mk R
  have o1 : (1 : Int32).toInt = 1 := by decide
  have o9 : (999 : Int32).toInt = 999 := by decide
  rcases fd_num v1 with ⟨f, b, hf, rfl⟩ | ⟨h4, h5⟩
  · by_cases c1 : v2 < 1
    · unfold wpX_box wpY_box
      dsimp only
      refine fx_isNum hf ?_
      refine br_f (by decide) ?_
      refine br_t c1 ?_
      refine fy_isNum hf ?_
      refine br_f (by decide) ?_
      exact br_t c1 ⟨rfl, Q⟩
    · by_cases c2 : v2 ≤ 999
      · have d1 := c1
        have d2 := c2
        rw [Int32.lt_iff_toInt_lt, o1] at d1
        rw [Int32.le_iff_toInt_le, o9] at d2
        refine fx_box hf (fd_ord R.1 hf) R.1.1 R.1.2.2.2.2.2 R.2.1 (by omega) d2 ?_
        unfold wpY_box
        dsimp only
        refine fy_isNum hf ?_
        refine br_f (by decide) ?_
        refine br_f c1 ?_
        refine br_t c2 ?_
        exact ⟨49, fy_box_32 (fd_fb6 hf) R.2.2.2 (by omega) d2 ⟨rfl, Q⟩ 49 0 (by omega) (by omega)⟩
      · unfold wpX_box wpY_box
        dsimp only
        refine fx_isNum hf ?_
        refine br_f (by decide) ?_
        refine br_f c1 ?_
        refine br_f c2 ?_
        refine fy_isNum hf ?_
        refine br_f (by decide) ?_
        exact br_f c1 (br_f c2 ⟨rfl, Q⟩)
  · unfold wpX_box wpY_box
    dsimp only
    refine fx_isNum0 h4 h5 ?_
    refine br_t rfl ?_
    refine fy_isNum0 h4 h5 ?_
    exact br_t rfl ⟨rfl, Q⟩
end
section
/-! the filters -/
theorem fd_f3u {fi : Nat → Int32} {f : Nat} {x : Int32} (h : fd_F3 fi) (hf : f ≠ 3) : fd_F3 (upd fi f x) := by
  obtain ⟨t, ht, e⟩ := h
  exact ⟨t, ht, by rw [pk_un (by omega)]; exact e⟩
theorem i_vc_filterTerms {k : Nat} {u : SX} {v : SY} (I : i_Rel k u v) (hk : k + 4 ≤ 2048) (v1 : Int32) (v2 : Int32) : wpX_filterTerms (fun r u' => wpY_filterTerms (fun r' v' => r' = r ∧ i_Rel (k + 4) u' v') v v1 v2) u v1 v2 := by
  refine fd_el (P := fun u v => wpX_filterTerms (fun r u' => wpY_filterTerms (fun r' v' => r' = r ∧ i_Rel (k + 4) u' v') v v1 v2) u v1 v2) ?_ I
  intro th mn wt wg va od fl fi se pa mo ath hi mk R
  have Q : i_Rel (k + 4) (th, nI mn, wt, wg, va, od, fl, fi, se, pa) (mo, ath, va, fl, fi, hi, mk) := fd_mk R
  unfold wpX_filterTerms wpY_filterTerms
  dsimp only
  rcases fd_ix v1 (n := 3) (by decide) with h | ⟨f, hf, rfl⟩
  · refine fx_isTermField0 h ?_
    refine br_t rfl ?_
    exact fd_o1 2 h ⟨rfl, Q⟩
  · refine fx_isTermField hf ?_
    refine br_f (by decide) ?_
    refine br_c (fun c1 => ?_) (fun c1 => br_c (fun c2 => ?_) (fun c2 => ?_))
    · exact fd_i1 2 hf (br_t c1 ⟨rfl, Q⟩)
    · have cl : (nI f).toNatClampNeg = f := nI_clamp (by omega)
      have hin : vp_in (nI f) 6 := vp_in_nI (by omega) (by decide)
      have h3 := fd_f3u (x := v2) R.2.2.1 (show f ≠ 3 by omega)
      refine fx_setFilter (by omega) R.1 h3 R.2.1 ?_
      intro p hp
      have Y : fd_YR (fd_bl th) mo ath hi (upd se f 0) := ⟨R.2.2.2.1, by rw [pk_un (by omega)]; exact R.2.2.2.2.1, by rw [pk_un (by omega)]; exact R.2.2.2.2.2.1, by rw [pk_un (by omega)]; exact R.2.2.2.2.2.2⟩
      refine fd_i1 2 hf ?_
      refine br_f c1 ?_
      refine br_t c2 ?_
      refine ⟨hin, nm_r (e' := upd fl f 1) (by rw [cl]; rfl) ⟨hin, nm_r (e' := upd fi f v2) (by rw [cl]) ?_⟩⟩
      exact fy_matching Y ⟨rfl, fd_mk ⟨R.1, hp, h3, Y⟩⟩
    · exact fd_i1 2 hf (br_f c1 (br_f c2 ⟨rfl, Q⟩))
theorem i_vc_filterTags {k : Nat} {u : SX} {v : SY} (I : i_Rel k u v) (hk : k + 4 ≤ 2048) (v1 : Int32) (v2 : Int32) : wpX_filterTags (fun r u' => wpY_filterTags (fun r' v' => r' = r ∧ i_Rel (k + 4) u' v') v v1 v2) u v1 v2 := by
  refine fd_el (P := fun u v => wpX_filterTags (fun r u' => wpY_filterTags (fun r' v' => r' = r ∧ i_Rel (k + 4) u' v') v v1 v2) u v1 v2) ?_ I
  intro th mn wt wg va od fl fi se pa mo ath hi mk R
  have Q : i_Rel (k + 4) (th, nI mn, wt, wg, va, od, fl, fi, se, pa) (mo, ath, va, fl, fi, hi, mk) := fd_mk R
  unfold wpX_filterTags wpY_filterTags
  dsimp only
  refine br_c (fun c1 => ?_) (fun c1 => br_c (fun c2 => ?_) (fun c2 => ?_))
  · exact br_t c1 ⟨rfl, Q⟩
  · refine br_c (fun c3 => ?_) (fun c3 => br_c (fun c4 => ?_) (fun c4 => ?_))
    · exact br_f c1 (br_t c2 (br_t c3 ⟨rfl, Q⟩))
    · have h3 : fd_F3 (upd fi 3 v1) := by
        have n0 : ¬ v1 < 0 := by
          intro z
          apply c1
          rw [Int32.lt_iff_toInt_lt, show (0 : Int32).toInt = 0 from by decide] at z
          rw [Int32.lt_iff_toInt_lt, show (1 : Int32).toInt = 1 from by decide]
          omega
        obtain ⟨t, ht, e⟩ := nI_of2 (M := 255) (n := 255) (by decide) n0 c2
        exact ⟨t, by omega, by rw [pk_us]; exact e⟩
      refine fx_setFilter (f := 3) (by decide) R.1 h3 R.2.1 ?_
      intro p hp
      have Y : fd_YR (fd_bl th) v2 ath hi (upd se 3 v2) := ⟨R.2.2.2.1, pk_us.symm, by rw [pk_un (by decide)]; exact R.2.2.2.2.2.1, by rw [pk_un (by decide)]; exact R.2.2.2.2.2.2⟩
      refine br_f c1 ?_
      refine br_t c2 ?_
      refine br_f c3 ?_
      refine br_t c4 ?_
      refine nm_r (e' := upd fl 3 1) rfl (nm_r (e' := upd fi 3 v1) rfl ?_)
      exact fy_matching Y ⟨rfl, fd_mk ⟨R.1, hp, h3, Y⟩⟩
    · exact br_f c1 (br_t c2 (br_f c3 (br_f c4 ⟨rfl, Q⟩)))
  · exact br_f c1 (br_f c2 ⟨rfl, Q⟩)
theorem i_vc_filterRange {k : Nat} {u : SX} {v : SY} (I : i_Rel k u v) (hk : k + 4 ≤ 2048) (v1 : Int32) (v2 : Int32) (v3 : Int32) : wpX_filterRange (fun r u' => wpY_filterRange (fun r' v' => r' = r ∧ i_Rel (k + 4) u' v') v v1 v2 v3) u v1 v2 v3 := by
  refine fd_el (P := fun u v => wpX_filterRange (fun r u' => wpY_filterRange (fun r' v' => r' = r ∧ i_Rel (k + 4) u' v') v v1 v2 v3) u v1 v2 v3) ?_ I
  intro th mn wt wg va od fl fi se pa mo ath hi mk R
  have Q : i_Rel (k + 4) (th, nI mn, wt, wg, va, od, fl, fi, se, pa) (mo, ath, va, fl, fi, hi, mk) := fd_mk R
  unfold wpX_filterRange wpY_filterRange
  dsimp only
  rcases fd_num v1 with ⟨f, b, hf, rfl⟩ | ⟨h4, h5⟩
  · have hf6 := fd_fb6 hf
    have hf4 : 4 ≤ f := by unfold fd_fb at hf; omega
    have cl : (nI f).toNatClampNeg = f := nI_clamp (by omega)
    have hin : vp_in (nI f) 6 := vp_in_nI (by omega) (by decide)
    have h3 := fd_f3u (x := v2) R.2.2.1 (show f ≠ 3 by omega)
    refine fx_isNum hf ?_
    refine br_f (by decide) ?_
    refine fx_setFilter hf6 R.1 h3 R.2.1 ?_
    intro p hp
    have U : ∀ g, hi g = se g → upd hi f v3 g = upd se f v3 g := by
      intro g hg
      by_cases z : g = f
      · rw [z, pk_us, pk_us]
      · rw [pk_un z, pk_un z]; exact hg
    have Y : fd_YR (fd_bl th) mo ath (upd hi f v3) (upd se f v3) := ⟨R.2.2.2.1, by rw [pk_un (by omega)]; exact R.2.2.2.2.1, U 4 R.2.2.2.2.2.1, U 5 R.2.2.2.2.2.2⟩
    refine fy_isNum hf ?_
    refine br_f (by decide) ?_
    refine ⟨hin, nm_r (e' := upd fl f 1) (by rw [cl]; rfl) ⟨hin, nm_r (e' := upd fi f v2) (by rw [cl]) ⟨hin, nm_r (e' := upd hi f v3) (by rw [cl]) ?_⟩⟩⟩
    exact fy_matching Y ⟨rfl, fd_mk ⟨R.1, hp, h3, Y⟩⟩
  · refine fx_isNum0 h4 h5 ?_
    refine br_t rfl ?_
    refine fy_isNum0 h4 h5 ?_
    exact br_t rfl ⟨rfl, Q⟩
theorem i_vc_release {k : Nat} {u : SX} {v : SY} (I : i_Rel k u v) (hk : k + 4 ≤ 2048) (v1 : Int32) : wpX_release (fun r u' => wpY_release (fun r' v' => r' = r ∧ i_Rel (k + 4) u' v') v v1) u v1 := by
  refine fd_el (P := fun u v => wpX_release (fun r u' => wpY_release (fun r' v' => r' = r ∧ i_Rel (k + 4) u' v') v v1) u v1) ?_ I
  intro th mn wt wg va od fl fi se pa mo ath hi mk R
  have Q : i_Rel (k + 4) (th, nI mn, wt, wg, va, od, fl, fi, se, pa) (mo, ath, va, fl, fi, hi, mk) := fd_mk R
  unfold wpX_release wpY_release
  dsimp only
  rcases fd_ix v1 (n := 6) (by decide) with h | ⟨f, hf, rfl⟩
  · refine fx_isField0 h ?_
    refine br_t rfl ?_
    exact fd_o1 5 h ⟨rfl, Q⟩
  · have cl : (nI f).toNatClampNeg = f := nI_clamp (by omega)
    have hin : vp_in (nI f) 6 := vp_in_nI (by omega) (by decide)
    refine fx_isField hf ?_
    refine br_f (by decide) ?_
    refine ⟨hin, nm_r (e' := upd fl f 0) (by rw [cl]; rfl) ?_⟩
    refine fx_refresh hf R.1 R.2.2.1 ?_
    intro s hs
    have hP : ∀ g, g < 6 → fd_Pas th va (upd fl f 0) fi se (vp_updL pa f s) g := by
      intro g hg e
      by_cases z : g = f
      · subst z
        rw [pk_uLs]
        exact hs e
      · rw [pk_uLn z, R.2.1 g hg e]
        exact congrArg _ (fd_ps_c (pk_un z).symm rfl rfl rfl)
    refine fx_matching R.1.1 hP ?_
    refine fd_i1 5 hf ?_
    refine ⟨hin, nm_r (e' := upd fl f 0) (by rw [cl]; rfl) ?_⟩
    exact fy_matching R.2.2.2 ⟨rfl, fd_mk ⟨R.1, hP, R.2.2.1, R.2.2.2⟩⟩
end
section
/-! set -/
theorem fd_Ord_va {f b mn : Nat} {T : Nat → Bool} {od va va' : Nat → Int32} (h : fd_Ord f b T od mn va) (hv : ∀ e, T e = true → va' (6 * e + f) = va (6 * e + f)) : fd_Ord f b T od mn va' := by
  obtain ⟨hm, o, ho, hs, hc⟩ := h
  refine ⟨hm, o, ho, ?_, hc⟩
  intro i j hij hj
  have := hs i j hij hj
  unfold fd_key at this ⊢
  rw [hv _ ((hc _).mpr ⟨i, by omega, rfl⟩), hv _ ((hc _).mpr ⟨j, hj, rfl⟩)]
  exact this
theorem fd_Ord_od {f b mn : Nat} {T : Nat → Bool} {od od' va : Nat → Int32} (h : fd_Ord f b T od mn va) (hv : ∀ i, i < 48 → od' (b + i) = od (b + i)) : fd_Ord f b T od' mn va := by
  obtain ⟨hm, o, ho, hs, hc⟩ := h
  refine ⟨hm, o, ?_, hs, hc⟩
  intro i hi
  rw [hv i (by omega)]
  exact ho i hi
theorem fd_Grp_va {f : Nat} {T : Nat → Bool} {va va' : Nat → Int32} {wt wg : Nat → Int64} (h : fd_Grp f T va wt wg) (hv : ∀ e, T e = true → va' (6 * e + f) = va (6 * e + f)) : fd_Grp f T va' wt wg := by
  intro t ht e
  rw [h t ht e]
  cases c : T e with
  | false => rfl
  | true => unfold fd_hs; rw [hv e c]
theorem fd_VR_u {va : Nat → Int32} {d f : Nat} {x : Int32} (h : fd_VR va) (hf : f < 6) (hx : fd_Fit f x) : fd_VR (upd va (6 * d + f) x) := by
  intro e he g hg
  by_cases z : 6 * e + g = 6 * d + f
  · have : g = f := by omega
    rw [z, pk_us, this]
    exact hx
  · rw [pk_un z]
    exact h e he g hg
theorem fd_Tb {T : Nat → Bool} {d : Nat} (h : T d = true) : (fun e => (T e && !decide (e = d)) || decide (e = d)) = T := by
  funext e
  by_cases z : e = d
  · subst z; rw [h]; simp
  · simp [z]
def fd_lo (f : Nat) : Int := if f < 4 then 0 else -999
def fd_hi (f : Nat) : Int := if f < 3 then 9 else if f = 3 then 255 else 999
def fd_ok (f : Nat) (x : Int32) : Prop := fd_lo f ≤ x.toInt ∧ x.toInt ≤ fd_hi f
theorem fd_okfit {f : Nat} {x : Int32} (h : fd_ok f x) : fd_Fit f x := by
  unfold fd_ok fd_lo fd_hi at h
  refine ⟨fun hf => ?_, fun hf => ?_, fun hf => ?_⟩
  · rw [if_pos (by omega), if_pos hf] at h
    obtain ⟨t, ht, e⟩ := vp_in_of (n := 10) (vp_in_iff.mpr ⟨h.1, by omega⟩) (by decide)
    exact ⟨t, ht, e⟩
  · rw [if_pos (by omega), if_neg (by omega), if_pos hf] at h
    obtain ⟨t, ht, e⟩ := vp_in_of (n := 256) (vp_in_iff.mpr ⟨h.1, by omega⟩) (by decide)
    exact ⟨t, ht, e⟩
  · rw [if_neg (by omega), if_neg (by omega), if_neg (by omega)] at h
    exact h
theorem fx_fits {post : Int32 → Prop} {f : Nat} {x : Int32} (hf : f < 6) (h1 : fd_ok f x → post 1) (h0 : ¬ fd_ok f x → post 0) : wpX_fits post (nI f) x := by
  have z0 : (0 : Int32).toInt = 0 := by decide
  have z10 : (10 : Int32).toInt = 10 := by decide
  have z255 : (255 : Int32).toInt = 255 := by decide
  have z999 : (999 : Int32).toInt = 999 := by decide
  have zm : (-999 : Int32).toInt = -999 := by decide
  unfold fd_ok fd_lo fd_hi at h0 h1
  unfold wpX_fits
  rcases Nat.lt_trichotomy f 3 with z | z | z
  · rw [if_pos (by omega), if_pos z] at h0 h1
    refine fx_isTermField z ?_
    refine br_f (by decide) ?_
    refine br_c (fun c => h0 ?_) (fun c => br_c (fun c2 => h0 ?_) (fun c2 => h1 ?_))
    · rw [Int32.lt_iff_toInt_lt, z0] at c; omega
    · rw [Int32.le_iff_toInt_le, z10] at c2; omega
    · rw [Int32.lt_iff_toInt_lt, z0] at c; rw [Int32.le_iff_toInt_le, z10] at c2; omega
  · rw [if_pos (by omega), if_neg (by omega), if_pos z] at h0 h1
    subst z
    refine fx_isTermField0 (Or.inr (nI_le (Nat.le_refl _) (by decide))) ?_
    refine br_t rfl ?_
    refine br_t rfl ?_
    refine br_c (fun c => h0 ?_) (fun c => br_c (fun c2 => h0 ?_) (fun c2 => h1 ?_))
    · rw [Int32.lt_iff_toInt_lt, z0] at c; omega
    · rw [Int32.lt_iff_toInt_lt, z255] at c2; omega
    · rw [Int32.lt_iff_toInt_lt, z0] at c; rw [Int32.lt_iff_toInt_lt, z255] at c2; omega
  · rw [if_neg (by omega), if_neg (by omega), if_neg (by omega)] at h0 h1
    refine fx_isTermField0 (Or.inr (nI_le (by omega) (by omega))) ?_
    refine br_t rfl ?_
    refine br_f ?_ ?_
    · intro y
      have := (nI_eq (a := f) (b := 3) (by omega) (by decide)).mp y
      omega
    · refine br_c (fun c => h0 ?_) (fun c => br_c (fun c2 => h0 ?_) (fun c2 => h1 ?_))
      · rw [Int32.lt_iff_toInt_lt, zm] at c; omega
      · rw [Int32.lt_iff_toInt_lt, z999] at c2; omega
      · rw [Int32.lt_iff_toInt_lt, zm] at c; rw [Int32.lt_iff_toInt_lt, z999] at c2; omega
section
variable {T : Nat → Bool} {mo : Int32} {ath va fl fi hi mk se : Nat → Int32}
theorem fy_set_60 {post : Int32 → SY → Prop} {d f : Nat} {x L H : Int32} (hd : d < 48) (hf : f < 6) (hL : L.toInt = fd_lo f) (hH : H.toInt = fd_hi f)
    (h0 : ¬ fd_ok f x → post (-3) (mo, ath, va, fl, fi, hi, mk)) (h1 : fd_ok f x → va (6 * d + f) = x → post 0 (mo, ath, upd va (6 * d + f) x, fl, fi, hi, mk)) (h2 : fd_ok f x → ¬ va (6 * d + f) = x → post 1 (mo, ath, upd va (6 * d + f) x, fl, fi, hi, mk)) :
    wY_set_60 post (nI d) (nI f) x L H mo ath va fl fi hi mk := by
  unfold wY_set_60
  unfold fd_ok at h0 h1 h2
  refine br_c (fun c => h0 ?_) (fun c => br_c (fun c2 => ?_) (fun c2 => h0 ?_))
  · rw [Int32.lt_iff_toInt_lt] at c; omega
  · rw [Int32.lt_iff_toInt_lt] at c
    rw [Int32.le_iff_toInt_le] at c2
    refine ⟨fd_in6 hd hf, nm_r (e' := va (6 * d + f)) (by rw [fd_cl6 hd hf]) ⟨fd_in6 hd hf, nm_r (e' := upd va (6 * d + f) x) (by rw [fd_cl6 hd hf]) ?_⟩⟩
    exact br_c (fun y => h1 (by omega) y) (fun y => h2 (by omega) y)
  · rw [Int32.le_iff_toInt_le] at c2; omega
theorem fy_set {post : Int32 → SY → Prop} {d f : Nat} {x : Int32} (hY : ∀ d, d < 48 → ath d = fd_b2i (T d)) (hd : d < 48) (hT : T d = true) (hf : f < 6)
    (h0 : ¬ fd_ok f x → post (-3) (mo, ath, va, fl, fi, hi, mk)) (h1 : fd_ok f x → va (6 * d + f) = x → post 0 (mo, ath, upd va (6 * d + f) x, fl, fi, hi, mk)) (h2 : fd_ok f x → ¬ va (6 * d + f) = x → post 1 (mo, ath, upd va (6 * d + f) x, fl, fi, hi, mk)) :
    wpY_set post (mo, ath, va, fl, fi, hi, mk) (nI d) (nI f) x := by
  unfold wpY_set
  dsimp only
  refine fy_doc hY hd hT ?_
  refine br_f (by decide) ?_
  refine fd_i1 5 hf ?_
  refine pk_le 4 f (fun z => ?_) (fun z => ?_)
  · unfold wY_set_34
    refine br_t (nI_le (a := 3) (by omega) (by omega)) ?_
    refine br_f ?_ ?_
    · intro y
      have := (nI_eq (a := f) (b := 3) (by omega) (by decide)).mp y
      omega
    · exact fy_set_60 hd hf (by unfold fd_lo; rw [if_neg (by omega)]; decide) (by unfold fd_hi; rw [if_neg (by omega), if_neg (by omega)]; decide) h0 h1 h2
  · unfold wY_set_34
    refine pk_le 3 f (fun y => ?_) (fun y => ?_)
    · have : f = 3 := by omega
      subst this
      refine br_t rfl ?_
      exact fy_set_60 hd hf (by decide) (by decide) h0 h1 h2
    · exact fy_set_60 hd hf (by unfold fd_lo; rw [if_pos (by omega)]; decide) (by unfold fd_hi; rw [if_pos y]; decide) h0 h1 h2
end
theorem fd_usame (va : Nat → Int32) (i : Nat) : upd va i (va i) = va := by
  funext j
  by_cases z : j = i
  · rw [z, pk_us]
  · rw [pk_un z]
section
variable {th : Int64} {mn : Nat} {wt wg : Nat → Int64} {va od fl fi se : Nat → Int32} {pa : Nat → Int64}
theorem fd_ua {d f e g : Nat} {x : Int32} (hf : f < 6) (hg : g < 6) (h : g ≠ f) : upd va (6 * d + f) x (6 * e + g) = va (6 * e + g) := pk_un (by omega)
theorem fd_ub {d f e : Nat} {x : Int32} (h : e ≠ d) : upd va (6 * d + f) x (6 * e + f) = va (6 * e + f) := pk_un (by omega)
theorem fx_set_131 {post : Int32 → SX → Prop} {d f : Nat} {x : Int32} (hf : f < 6) (hC : fd_Cor th mn wt wg (upd va (6 * d + f) x) od) (h3 : fd_F3 fi) (hP : ∀ g, g < 6 → fd_Pas th va fl fi se pa g)
    (h : ∀ p, (∀ g, g < 6 → fd_Pas th (upd va (6 * d + f) x) fl fi se p g) → post 1 (th, nI mn, wt, wg, upd va (6 * d + f) x, od, fl, fi, se, p)) : wX_set_131 post (nI f) th (nI mn) wt wg (upd va (6 * d + f) x) od fl fi se pa := by
  unfold wX_set_131
  refine fx_refresh hf hC h3 ?_
  intro s hs
  refine h _ ?_
  intro g hg e
  by_cases z : g = f
  · subst z
    rw [pk_uLs]
    exact hs e
  · rw [pk_uLn z, hP g hg e]
    exact congrArg _ (fd_ps_c rfl rfl rfl (fd_ua hf hg z).symm)
theorem fx_setG {post : Int32 → SX → Prop} {d f : Nat} {x : Int32} (hf : f < 4) (hd : d < 48) (hT : fd_bl th d = true) (hx : fd_Fit f x) (hC : fd_Cor th mn wt wg va od) (h3 : fd_F3 fi) (hP : ∀ g, g < 6 → fd_Pas th va fl fi se pa g)
    (h : ∀ wt' wg' p, fd_Cor th mn wt' wg' (upd va (6 * d + f) x) od → (∀ g, g < 6 → fd_Pas th (upd va (6 * d + f) x) fl fi se p g) → post 1 (th, nI mn, wt', wg', upd va (6 * d + f) x, od, fl, fi, se, p)) :
    wpX_mark (fun u => match u with | (t0, t1, t2, t3, t4, t5, t6, t7, t8, t9) => wpX_mark (fun u => match u with | (s0, s1, s2, s3, s4, s5, s6, s7, s8, s9) => (vp_in (nI (6 * d + f)) 288 ∧ ∀ a, a = upd s4 (nI (6 * d + f)).toNatClampNeg x → wX_set_131 post (nI f) s0 s1 s2 s3 a s5 s6 s7 s8 s9)) (t0, t1, t2, t3, t4, t5, t6, t7, t8, t9) (nI d) (nI f) x 1) (th, nI mn, wt, wg, va, od, fl, fi, se, pa) (nI d) (nI f) (va (6 * d + f)) 0 := by
  obtain ⟨h48, hc, hG, h4, h5, hV⟩ := hC
  refine fx_mark_off hf hd (hV d hd f (by omega)) (hG f hf) rfl ?_
  intro wt1 wg1 G1 F1
  refine fx_mark_on (va0 := upd va (6 * d + f) x) (T := fun e => fd_bl th e && !decide (e = d)) hf hd hx ?_ (by simp) pk_us ?_
  · refine fd_Grp_va G1 ?_
    intro e he
    refine fd_ub ?_
    rw [Bool.and_eq_true, Bool.not_eq_true', decide_eq_false_iff_not] at he
    exact he.2
  intro wt2 wg2 G2 F2
  rw [fd_Tb hT] at G2
  refine ⟨vp_in_nI (by omega) (by decide), nm_r (e' := upd va (6 * d + f) x) (by rw [nI_clamp (by omega)]) ?_⟩
  have hC' : fd_Cor th mn wt2 wg2 (upd va (6 * d + f) x) od := by
    refine ⟨h48, hc, ?_, ?_, ?_, fd_VR_u hV (by omega) hx⟩
    · intro g hg
      by_cases z : g = f
      · subst z; exact G2
      · exact fd_Grp_va (F2 g _ _ hg z (F1 g _ _ hg z (hG g hg))) (fun e _ => fd_ua (by omega) (by omega) z)
    · exact fd_Ord_va h4 (fun e _ => fd_ua (by omega) (by omega) (by omega))
    · exact fd_Ord_va h5 (fun e _ => fd_ua (by omega) (by omega) (by omega))
  exact fx_set_131 (by omega) hC' h3 hP (fun p hp => h wt2 wg2 p hC' hp)
theorem fx_setN {post : Int32 → SX → Prop} {d f b : Nat} {x : Int32} (hf : fd_fb f b) (hd : d < 48) (hT : fd_bl th d = true) (hx : fd_Fit f x) (hC : fd_Cor th mn wt wg va od) (h3 : fd_F3 fi) (hP : ∀ g, g < 6 → fd_Pas th va fl fi se pa g)
    (h : ∀ od' p, fd_Cor th mn wt wg (upd va (6 * d + f) x) od' → (∀ g, g < 6 → fd_Pas th (upd va (6 * d + f) x) fl fi se p g) → post 1 (th, nI mn, wt, wg, upd va (6 * d + f) x, od', fl, fi, se, p)) :
    wpX_leave (fun u => match u with | (t0, t1, t2, t3, t4, t5, t6, t7, t8, t9) => ∀ m, m = t1 - 1 → (vp_in (nI (6 * d + f)) 288 ∧ ∀ a, a = upd t4 (nI (6 * d + f)).toNatClampNeg x → wpX_enter (fun u => match u with | (s0, s1, s2, s3, s4, s5, s6, s7, s8, s9) => ∀ m', m' = s1 + 1 → wX_set_131 post (nI f) s0 m' s2 s3 s4 s5 s6 s7 s8 s9) (t0, m, t2, t3, a, t5, t6, t7, t8, t9) (nI f) (nI d))) (th, nI mn, wt, wg, va, od, fl, fi, se, pa) (nI f) (nI d) := by
  have hO := fd_ord hC hf
  have hf6 := fd_fb6 hf
  obtain ⟨h48, hc, hG, h4, h5, hV⟩ := hC
  have hm : mn ≤ 48 := hO.1
  have hm1 : 1 ≤ mn := by
    obtain ⟨_, o, _, _, ho⟩ := hO
    obtain ⟨i, hi, _⟩ := (ho d).mp hT
    omega
  refine fx_leave hf hT hO ?_
  intro od1 O1 E1
  refine nm_r (e' := nI (mn - 1)) (by obtain ⟨m, rfl⟩ : ∃ m, mn = m + 1 := ⟨mn - 1, by omega⟩; exact nI_pred m) ?_
  refine ⟨vp_in_nI (by omega) (by decide), nm_r (e' := upd va (6 * d + f) x) (by rw [nI_clamp (by omega)]) ?_⟩
  have O2 : fd_Ord f b (fun e => fd_bl th e && !decide (e = d)) od1 (mn - 1) (upd va (6 * d + f) x) := by
    refine fd_Ord_va O1 ?_
    intro e he
    refine fd_ub ?_
    rw [Bool.and_eq_true, Bool.not_eq_true', decide_eq_false_iff_not] at he
    exact he.2
  refine fx_enter hf hd (by simp) (by omega) O2 ?_
  intro od2 O3 E3
  rw [fd_Tb hT, show mn - 1 + 1 = mn by omega] at O3
  refine nm_r (e' := nI mn) (by rw [nI_1, show mn - 1 + 1 = mn by omega]) ?_
  have hC' : fd_Cor th mn wt wg (upd va (6 * d + f) x) od2 := by
    have hE : ∀ j, (j < b ∨ b + 48 ≤ j) → od2 j = od j := fun j hj => (E3 j hj).trans (E1 j hj)
    refine ⟨h48, hc, ?_, ?_, ?_, fd_VR_u hV hf6 hx⟩
    · intro g hg
      exact fd_Grp_va (hG g hg) (fun e _ => fd_ua hf6 (by omega) (by unfold fd_fb at hf; omega))
    · rcases hf with ⟨rfl, rfl⟩ | ⟨rfl, rfl⟩
      · exact O3
      · exact fd_Ord_od (fd_Ord_va h4 (fun e _ => fd_ua (by omega) (by omega) (by omega))) (fun i hi => hE _ (by omega))
    · rcases hf with ⟨rfl, rfl⟩ | ⟨rfl, rfl⟩
      · exact fd_Ord_od (fd_Ord_va h5 (fun e _ => fd_ua (by omega) (by omega) (by omega))) (fun i hi => hE _ (by omega))
      · exact O3
  exact fx_set_131 hf6 hC' h3 hP (fun p hp => h od2 p hC' hp)
end
theorem i_vc_set {k : Nat} {u : SX} {v : SY} (I : i_Rel k u v) (hk : k + 4 ≤ 2048) (v1 : Int32) (v2 : Int32) (v3 : Int32) : wpX_set (fun r u' => wpY_set (fun r' v' => r' = r ∧ i_Rel (k + 4) u' v') v v1 v2 v3) u v1 v2 v3 := by
  refine fd_el (P := fun u v => wpX_set (fun r u' => wpY_set (fun r' v' => r' = r ∧ i_Rel (k + 4) u' v') v v1 v2 v3) u v1 v2 v3) ?_ I
  intro th mn wt wg va od fl fi se pa mo ath hi mk R
  have Q : i_Rel (k + 4) (th, nI mn, wt, wg, va, od, fl, fi, se, pa) (mo, ath, va, fl, fi, hi, mk) := fd_mk R
  have hY := R.2.2.2.1
  unfold wpX_set
  dsimp only
  rcases fd_doc (fd_bl th) v1 with h | ⟨d, hd, rfl, hT⟩
  · refine fx_doc0 h ?_
    refine br_t rfl ?_
    unfold wpY_set
    dsimp only
    refine fy_doc0 hY h ?_
    exact br_t rfl ⟨rfl, Q⟩
  · refine fx_doc hd hT ?_
    refine br_f (by decide) ?_
    rcases fd_ix v2 (n := 6) (by decide) with h | ⟨f, hf, rfl⟩
    · refine fx_isField0 h ?_
      refine br_t rfl ?_
      unfold wpY_set
      dsimp only
      refine fy_doc hY hd hT ?_
      refine br_f (by decide) ?_
      exact fd_o1 5 h ⟨rfl, Q⟩
    · refine fx_isField hf ?_
      refine br_f (by decide) ?_
      refine fx_fits hf ?_ ?_
      · intro ok
        refine br_f (by decide) ?_
        refine nm_r (fd_n6 d f) ?_
        refine ⟨vp_in_nI (by omega) (by decide), ?_⟩
        refine nm_r (e' := va (6 * d + f)) (by rw [nI_clamp (by omega)]) ?_
        refine br_c (fun c => ?_) (fun c => ?_)
        · refine fy_set hY hd hT hf (fun n => absurd ok n) (fun _ _ => ⟨rfl, ?_⟩) (fun _ y => absurd c y)
          rw [← c, fd_usame]
          exact Q
        · rcases Nat.lt_or_ge f 4 with z | z
          · refine fx_isNum0 ?_ ?_ ?_
            · intro y
              have := (nI_eq (a := f) (b := 4) (by omega) (by decide)).mp y
              omega
            · intro y
              have := (nI_eq (a := f) (b := 5) (by omega) (by decide)).mp y
              omega
            · refine br_t rfl ?_
              refine fx_setG z hd hT (fd_okfit ok) R.1 R.2.2.1 R.2.1 ?_
              intro wt' wg' p hC hp
              exact fy_set hY hd hT hf (fun n => absurd ok n) (fun _ y => absurd y c) (fun _ _ => ⟨rfl, fd_mk ⟨hC, hp, R.2.2.1, R.2.2.2⟩⟩)
          · have hfb : ∃ b, fd_fb f b := by
              by_cases y : f = 4
              · exact ⟨0, Or.inl ⟨y, rfl⟩⟩
              · exact ⟨48, Or.inr ⟨by omega, rfl⟩⟩
            obtain ⟨b, hfb⟩ := hfb
            refine fx_isNum hfb ?_
            refine br_f (by decide) ?_
            refine fx_setN hfb hd hT (fd_okfit ok) R.1 R.2.2.1 R.2.1 ?_
            intro od' p hC hp
            exact fy_set hY hd hT hf (fun n => absurd ok n) (fun _ y => absurd y c) (fun _ _ => ⟨rfl, fd_mk ⟨hC, hp, R.2.2.1, R.2.2.2⟩⟩)
      · intro nok
        refine br_t rfl ?_
        exact fy_set hY hd hT hf (fun _ => ⟨rfl, Q⟩) (fun ok => absurd ok nok) (fun ok => absurd ok nok)
end
section
/-! make and remove -/
def fd_mv (va : Nat → Int32) (d : Nat) (a b c : Int32) : Nat → Int32 := upd (upd (upd (upd (upd (upd va (6 * d + 0) a) (6 * d + 1) b) (6 * d + 2) c) (6 * d + 3) 0) (6 * d + 4) 0) (6 * d + 5) 0
theorem fd_mv_o {va : Nat → Int32} {d e f : Nat} {a b c : Int32} (he : e ≠ d) (hf : f < 6) : fd_mv va d a b c (6 * e + f) = va (6 * e + f) := by
  unfold fd_mv
  rw [pk_un (by omega), pk_un (by omega), pk_un (by omega), pk_un (by omega), pk_un (by omega), pk_un (by omega)]
theorem fd_mv_0 {va : Nat → Int32} {d : Nat} {a b c : Int32} : fd_mv va d a b c (6 * d + 0) = a := by
  unfold fd_mv
  rw [pk_un (by omega), pk_un (by omega), pk_un (by omega), pk_un (by omega), pk_un (by omega), pk_us]
theorem fd_mv_1 {va : Nat → Int32} {d : Nat} {a b c : Int32} : fd_mv va d a b c (6 * d + 1) = b := by
  unfold fd_mv
  rw [pk_un (by omega), pk_un (by omega), pk_un (by omega), pk_un (by omega), pk_us]
theorem fd_mv_2 {va : Nat → Int32} {d : Nat} {a b c : Int32} : fd_mv va d a b c (6 * d + 2) = c := by
  unfold fd_mv
  rw [pk_un (by omega), pk_un (by omega), pk_un (by omega), pk_us]
theorem fd_mv_3 {va : Nat → Int32} {d : Nat} {a b c : Int32} : fd_mv va d a b c (6 * d + 3) = 0 := by
  unfold fd_mv
  rw [pk_un (by omega), pk_un (by omega), pk_us]
theorem fd_fit0 (f : Nat) : fd_Fit f 0 := ⟨fun _ => ⟨0, by decide, rfl⟩, fun _ => ⟨0, by decide, rfl⟩, fun _ => ⟨by decide, by decide⟩⟩
theorem fd_fitT {f t : Nat} (hf : f < 3) (ht : t < 10) : fd_Fit f (nI t) := ⟨fun _ => ⟨t, ht, rfl⟩, fun h => by omega, fun h => by omega⟩
theorem fd_mv_V {va : Nat → Int32} {d a b c : Nat} (h : fd_VR va) (ha : a < 10) (hb : b < 10) (hc : c < 10) : fd_VR (fd_mv va d (nI a) (nI b) (nI c)) := by
  unfold fd_mv
  exact fd_VR_u (fd_VR_u (fd_VR_u (fd_VR_u (fd_VR_u (fd_VR_u h (by decide) (fd_fitT (by decide) ha)) (by decide) (fd_fitT (by decide) hb)) (by decide) (fd_fitT (by decide) hc)) (by decide) (fd_fit0 3)) (by decide) (fd_fit0 4)) (by decide) (fd_fit0 5)
section
variable {th : Int64} {mn : Nat} {wt wg : Nat → Int64} {va od fl fi se : Nat → Int32} {pa : Nat → Int64}
theorem fx_make_v {post : Int32 → SX → Prop} {d n : Nat} {a b c : Int32} (hd : d < 48) (h : wX_make_73 post a b c (nI d) th (nI mn) (n + 1) 6 wt wg (fd_mv va d a b c) od fl fi se pa) :
    wX_make_73 post a b c (nI d) th (nI mn) (n + 7) 0 wt wg va od fl fi se pa := by
  refine br_f (by decide) (br_t rfl ⟨fd_in6 (f := 0) hd (by decide), nm_r (e' := upd va (6 * d + 0) a) (congrArg (fun i => upd va i a) (fd_cl6 (f := 0) hd (by decide))) (nm_r (e' := 1) (by decide) ?_)⟩)
  refine br_f (by decide) (br_f (by decide) (br_t rfl ⟨fd_in6 (f := 1) hd (by decide), nm_r (e' := upd (upd va (6 * d + 0) a) (6 * d + 1) b) (congrArg (fun i => upd (upd va (6 * d + 0) a) i b) (fd_cl6 (f := 1) hd (by decide))) (nm_r (e' := 2) (by decide) ?_)⟩))
  refine br_f (by decide) (br_f (by decide) (br_f (by decide) (br_t rfl ⟨fd_in6 (f := 2) hd (by decide), nm_r (e' := upd (upd (upd va (6 * d + 0) a) (6 * d + 1) b) (6 * d + 2) c) (congrArg (fun i => upd (upd (upd va (6 * d + 0) a) (6 * d + 1) b) i c) (fd_cl6 (f := 2) hd (by decide))) (nm_r (e' := 3) (by decide) ?_)⟩)))
  generalize hv : upd (upd (upd va (6 * d + 0) a) (6 * d + 1) b) (6 * d + 2) c = w
  refine br_f (by decide) (br_f (by decide) (br_f (by decide) (br_f (by decide) ⟨fd_in6 (f := 3) hd (by decide), nm_r (e' := upd w (6 * d + 3) 0) (congrArg (fun i => upd w i 0) (fd_cl6 (f := 3) hd (by decide))) (nm_r (e' := 4) (by decide) ?_)⟩)))
  refine br_f (by decide) (br_f (by decide) (br_f (by decide) (br_f (by decide) ⟨fd_in6 (f := 4) hd (by decide), nm_r (e' := upd (upd w (6 * d + 3) 0) (6 * d + 4) 0) (congrArg (fun i => upd (upd w (6 * d + 3) 0) i 0) (fd_cl6 (f := 4) hd (by decide))) (nm_r (e' := 5) (by decide) ?_)⟩)))
  refine br_f (by decide) (br_f (by decide) (br_f (by decide) (br_f (by decide) ⟨fd_in6 (f := 5) hd (by decide), nm_r (e' := upd (upd (upd w (6 * d + 3) 0) (6 * d + 4) 0) (6 * d + 5) 0) (congrArg (fun i => upd (upd (upd w (6 * d + 3) 0) (6 * d + 4) 0) i 0) (fd_cl6 (f := 5) hd (by decide))) (nm_r (e' := 6) (by decide) ?_)⟩)))
  rw [← hv]
  exact h
theorem fx_make_t {post : Int32 → SX → Prop} {d n a b c : Nat} {T : Nat → Bool} (hd : d < 48) (ha : a < 10) (hb : b < 10) (hc : c < 10) (hTh : fd_bl th = fun e => T e || decide (e = d)) (hT : T d = false)
    (hG : ∀ f, f < 4 → fd_Grp f T va wt wg) (h4 : fd_Ord 4 0 T od mn va) (h5 : fd_Ord 5 48 T od mn va)
    (e0 : va (6 * d + 0) = nI a) (e1 : va (6 * d + 1) = nI b) (e2 : va (6 * d + 2) = nI c) (e3 : va (6 * d + 3) = 0)
    (hV : fd_VR va) (h48 : ∀ e, 48 ≤ e → fd_bl th e = false) (hcn : mn + 1 = fd_cnt (fd_bl th) 48) (hm : mn < 48) (h3 : fd_F3 fi)
    (h : ∀ wt' wg' od' p, fd_Cor th (mn + 1) wt' wg' va od' → (∀ g, g < 6 → fd_Pas th va fl fi se p g) → post (nI d) (th, nI (mn + 1), wt', wg', va, od', fl, fi, se, p)) :
    wX_make_73 post (nI a) (nI b) (nI c) (nI d) th (nI mn) (n + 1) 6 wt wg va od fl fi se pa := by
  refine br_t (by decide) ?_
  refine fx_mark_on (f := 0) (va0 := va) (T := T) (by decide) hd (fd_fitT (by decide) ha) (hG 0 (by decide)) hT e0 ?_
  intro wt1 wg1 G0 F0
  refine fx_mark_on (f := 1) (va0 := va) (T := T) (by decide) hd (fd_fitT (by decide) hb) (F0 1 T va (by decide) (by decide) (hG 1 (by decide))) hT e1 ?_
  intro wt2 wg2 G1 F1
  refine fx_mark_on (f := 2) (va0 := va) (T := T) (by decide) hd (fd_fitT (by decide) hc) (F1 2 T va (by decide) (by decide) (F0 2 T va (by decide) (by decide) (hG 2 (by decide)))) hT e2 ?_
  intro wt3 wg3 G2 F2
  refine fx_enter (f := 4) (b := 0) (T := T) (Or.inl ⟨rfl, rfl⟩) hd hT hm h4 ?_
  intro od1 O4 E4
  refine fx_enter (f := 5) (b := 48) (T := T) (Or.inr ⟨rfl, rfl⟩) hd hT hm (fd_Ord_od h5 (fun i hi => E4 _ (by omega))) ?_
  intro od2 O5 E5
  refine nm_r (nI_1 mn) ?_
  have hC : fd_Cor th (mn + 1) wt3 wg3 va od2 := by
    refine ⟨h48, hcn, ?_, ?_, ?_, hV⟩
    · intro f hf
      rw [hTh]
      rcases Nat.lt_or_ge f 3 with z | z
      · rcases Nat.lt_or_ge f 2 with y | y
        · rcases Nat.lt_or_ge f 1 with x | x
          · have : f = 0 := by omega
            subst this
            exact F2 0 _ _ (by decide) (by decide) (F1 0 _ _ (by decide) (by decide) G0)
          · have : f = 1 := by omega
            subst this
            exact F2 1 _ _ (by decide) (by decide) G1
        · have : f = 2 := by omega
          subst this
          exact G2
      · have : f = 3 := by omega
        subst this
        have G3 := F2 3 _ _ (by decide) (by decide) (F1 3 _ _ (by decide) (by decide) (F0 3 _ _ (by decide) (by decide) (hG 3 (by decide))))
        intro t ht e
        rw [G3 t ht e]
        by_cases y : e = d
        · subst y
          have : fd_hs va 3 t e = false := by
            unfold fd_hs fd_vh
            rw [if_pos rfl, e3]
            exact b_0 t
          rw [this]; simp
        · simp [y]
    · rw [hTh]
      exact fd_Ord_od O4 (fun i hi => E5 _ (by omega))
    · rw [hTh]
      exact O5
  refine fx_refreshAll hC h3 ?_
  intro p hp
  exact h wt3 wg3 od2 p hC hp
theorem fx_make_39 {post : Int32 → SX → Prop} {d : Nat} {a b c : Int32} (hd : d < 48) (hT : fd_bl th d = false) (hl : ∀ e, e < d → fd_bl th e = true)
    (h : ∃ n, wX_make_73 post a b c (nI d) (th ||| ((1 : Int64) <<< ((nI d).toInt64 &&& 63))) (nI mn) n 0 wt wg va od fl fi se pa) : ∀ m e, m + e = d → wX_make_39 post a b c th (nI mn) wt wg va od fl fi se pa (m + 1) (nI e) := by
  intro m
  induction m with
  | zero =>
    intro e he
    have : e = d := by omega
    subst this
    unfold wX_make_39
    refine fx_in th e (by omega) ?_
    rw [hT]
    exact br_t rfl (nm_e h)
  | succ m ih =>
    intro e he
    unfold wX_make_39
    refine fx_in th e (by omega) ?_
    rw [hl e (by omega)]
    exact br_f (by decide) (nm_r (nI_1 e) (ih (e + 1) (by omega)))
theorem fx_remove_12 {post : Int32 → SX → Prop} {d : Nat} (hd : d < 48) (hT : fd_bl th d = true) (h48 : ∀ e, 48 ≤ e → fd_bl th e = false) (hcn : mn = fd_cnt (fd_bl th) 48)
    (h4 : fd_Ord 4 0 (fd_bl th) od mn va) (h5 : fd_Ord 5 48 (fd_bl th) od mn va) (hV : fd_VR va) (h3 : fd_F3 fi)
    (h : ∀ th' wt' wg' od' p, fd_bl th' = (fun e => fd_bl th e && !decide (e = d)) → fd_Cor th' (mn - 1) wt' wg' va od' → (∀ g, g < 6 → fd_Pas th' va fl fi se p g) → post (nI (mn - 1)) (th', nI (mn - 1), wt', wg', va, od', fl, fi, se, p)) :
    ∀ m f (w1 w2 : Nat → Int64), m + f = 4 → (∀ g, g < f → fd_Grp g (fun e => fd_bl th e && !decide (e = d)) va w1 w2) → (∀ g, f ≤ g → g < 4 → fd_Grp g (fd_bl th) va w1 w2) → wX_remove_12 post (nI d) (m + 1) (nI f) th (nI mn) w1 w2 va od fl fi se pa := by
  intro m
  induction m with
  | zero =>
    intro f w1 w2 hf hA hB
    have : f = 4 := by omega
    subst this
    refine br_t (by decide) ?_
    refine fx_leave (f := 4) (b := 0) (Or.inl ⟨rfl, rfl⟩) hT h4 ?_
    intro od1 O4 E4
    refine fx_leave (f := 5) (b := 48) (Or.inr ⟨rfl, rfl⟩) hT (fd_Ord_od h5 (fun i hi => E4 _ (by omega))) ?_
    intro od2 O5 E5
    have hm1 : 1 ≤ mn := by
      obtain ⟨_, o, _, _, ho⟩ := h4
      obtain ⟨i, hi, _⟩ := (ho d).mp hT
      omega
    have hth : fd_bl (th &&& (((1 : Int64) <<< ((nI d).toInt64 &&& 63)) ^^^ (-1))) = fun e => fd_bl th e && !decide (e = d) := by
      funext e
      exact fd_bln th d (by omega) e
    refine nm_r (e' := nI (mn - 1)) (by obtain ⟨m, rfl⟩ : ∃ m, mn = m + 1 := ⟨mn - 1, by omega⟩; exact nI_pred m) ?_
    refine nm_e ?_
    have hC : fd_Cor (th &&& (((1 : Int64) <<< ((nI d).toInt64 &&& 63)) ^^^ (-1))) (mn - 1) w1 w2 va od2 := by
      refine ⟨?_, ?_, ?_, ?_, ?_, hV⟩
      · intro e he
        rw [hth]
        show (fd_bl th e && _) = false
        rw [h48 e he]; rfl
      · have : fd_cnt (fd_bl th) 48 = fd_cnt (fun e => fd_bl th e && !decide (e = d)) 48 + 1 := fd_cnt_1 (k := d) hT (by simp) 48 hd (fun i _ hn => by simp [hn])
        rw [hth]
        omega
      · intro g hg
        rw [hth]
        exact hA g hg
      · rw [hth]
        exact fd_Ord_od O4 (fun i hi => E5 _ (by omega))
      · rw [hth]
        exact O5
    refine fx_refreshAll hC h3 ?_
    intro p hp
    exact h _ w1 w2 od2 p hth hC hp
  | succ m ih =>
    intro f w1 w2 hf hA hB
    refine br_f (nI_nlt (a := 3) (by omega) (by decide)) ⟨fd_in6 hd (by omega), ?_⟩
    rw [fd_cl6 hd (by omega)]
    refine fx_mark_off (va0 := va) (by omega) hd (hV d hd f (by omega)) (hB f (Nat.le_refl _) (by omega)) rfl ?_
    intro w3 w4 G F
    refine nm_r (nI_1 f) (ih (f + 1) w3 w4 (by omega) ?_ ?_)
    · intro g hg
      by_cases z : g = f
      · subst z; exact G
      · exact F g _ _ (by omega) z (hA g (by omega))
    · intro g h1 h2
      exact F g _ _ h2 (by omega) (hB g (by omega) h2)
end
section
variable {T : Nat → Bool} {mo : Int32} {ath va fl fi hi mk se : Nat → Int32}
theorem fy_make_36 {post : Int32 → SY → Prop} {d : Nat} {a b c : Int32} (hY : ∀ d, d < 48 → ath d = fd_b2i (T d)) (hd : d < 48) (hT : T d = false) (hl : ∀ e, e < d → T e = true)
    (h : post (nI d) (mo, upd ath d 1, fd_mv va d a b c, fl, fi, hi, mk)) : ∀ m e, m + e = d → wY_make_36 post a b c mo ath va fl fi hi mk (m + 1) (nI e) := by
  intro m
  induction m with
  | zero =>
    intro e he
    have : e = d := by omega
    subst this
    have c6 : (6 * nI e : Int32) = nI (6 * e) := by rw [show (6 : Int32) = nI 6 from rfl, pk_mul]
    refine br_f (nI_ge (b := 48) hd (by decide)) ⟨vp_in_nI hd (by decide), ?_⟩
    rw [nI_clamp (show e < 2 ^ 31 by omega), hY e hd, hT]
    refine br_t rfl ⟨vp_in_nI hd (by decide), nm_r (e' := upd ath e 1) rfl ?_⟩
    refine ⟨by rw [c6]; exact vp_in_nI (by omega) (by decide), nm_r (e' := upd va (6 * e + 0) a) (by rw [c6, nI_clamp (by omega)]; rfl) ?_⟩
    refine ⟨fd_in6 (f := 1) hd (by decide), nm_r (e' := upd (upd va (6 * e + 0) a) (6 * e + 1) b) (congrArg (fun i => upd (upd va (6 * e + 0) a) i b) (fd_cl6 (f := 1) hd (by decide))) ?_⟩
    refine ⟨fd_in6 (f := 2) hd (by decide), nm_r (e' := upd (upd (upd va (6 * e + 0) a) (6 * e + 1) b) (6 * e + 2) c) (congrArg (fun i => upd (upd (upd va (6 * e + 0) a) (6 * e + 1) b) i c) (fd_cl6 (f := 2) hd (by decide))) ?_⟩
    generalize hv : upd (upd (upd va (6 * e + 0) a) (6 * e + 1) b) (6 * e + 2) c = w
    refine ⟨fd_in6 (f := 3) hd (by decide), nm_r (e' := upd w (6 * e + 3) 0) (congrArg (fun i => upd w i 0) (fd_cl6 (f := 3) hd (by decide))) ?_⟩
    refine ⟨fd_in6 (f := 4) hd (by decide), nm_r (e' := upd (upd w (6 * e + 3) 0) (6 * e + 4) 0) (congrArg (fun i => upd (upd w (6 * e + 3) 0) i 0) (fd_cl6 (f := 4) hd (by decide))) ?_⟩
    refine ⟨fd_in6 (f := 5) hd (by decide), nm_r (e' := upd (upd (upd w (6 * e + 3) 0) (6 * e + 4) 0) (6 * e + 5) 0) (congrArg (fun i => upd (upd (upd w (6 * e + 3) 0) (6 * e + 4) 0) i 0) (fd_cl6 (f := 5) hd (by decide))) ?_⟩
    rw [← hv]
    exact h
  | succ m ih =>
    intro e he
    refine br_f (nI_ge (b := 48) (by omega) (by decide)) ⟨vp_in_nI (by omega) (by decide), ?_⟩
    rw [nI_clamp (show e < 2 ^ 31 by omega), hY e (by omega), hl e (by omega)]
    exact br_f (by decide) (nm_r (nI_1 e) (ih (e + 1) (by omega)))
theorem fy_make_36f {post : Int32 → SY → Prop} {a b c : Int32} (hY : ∀ d, d < 48 → ath d = fd_b2i (T d)) (hl : ∀ e, e < 48 → T e = true)
    (h : post (-4) (mo, ath, va, fl, fi, hi, mk)) : ∀ m e, m + e = 48 → wY_make_36 post a b c mo ath va fl fi hi mk (m + 1) (nI e) := by
  intro m
  induction m with
  | zero =>
    intro e he
    exact br_t (nI_le (a := 48) (by omega) (by omega)) h
  | succ m ih =>
    intro e he
    refine br_f (nI_ge (b := 48) (by omega) (by decide)) ⟨vp_in_nI (by omega) (by decide), ?_⟩
    rw [nI_clamp (show e < 2 ^ 31 by omega), hY e (by omega), hl e (by omega)]
    exact br_f (by decide) (nm_r (nI_1 e) (ih (e + 1) (by omega)))
end
theorem i_vc_remove {k : Nat} {u : SX} {v : SY} (I : i_Rel k u v) (hk : k + 4 ≤ 2048) (v1 : Int32) : wpX_remove (fun r u' => wpY_remove (fun r' v' => r' = r ∧ i_Rel (k + 4) u' v') v v1) u v1 := by
  refine fd_el (P := fun u v => wpX_remove (fun r u' => wpY_remove (fun r' v' => r' = r ∧ i_Rel (k + 4) u' v') v v1) u v1) ?_ I
  intro th mn wt wg va od fl fi se pa mo ath hi mk R
  have Q : i_Rel (k + 4) (th, nI mn, wt, wg, va, od, fl, fi, se, pa) (mo, ath, va, fl, fi, hi, mk) := fd_mk R
  have hY := R.2.2.2.1
  unfold wpX_remove wpY_remove
  dsimp only
  rcases fd_doc (fd_bl th) v1 with h | ⟨d, hd, rfl, hT⟩
  · refine fx_doc0 h ?_
    refine br_t rfl ?_
    refine fy_doc0 hY h ?_
    exact br_t rfl ⟨rfl, Q⟩
  · refine fx_doc hd hT ?_
    refine br_f (by decide) ?_
    obtain ⟨⟨h48, hcn, hG, h4, h5, hV⟩, hP, h3, _, hm, hh4, hh5⟩ := R
    refine ⟨5, fx_remove_12 hd hT h48 hcn h4 h5 hV h3 ?_ 4 0 wt wg rfl (fun g hg => absurd hg (Nat.not_lt_zero g)) (fun g _ hg => hG g hg)⟩
    intro th' wt' wg' od' p hth hC hp
    refine fy_doc hY hd hT ?_
    refine br_f (by decide) ?_
    refine ⟨vp_in_nI hd (by decide), nm_r (e' := upd ath d 0) (by rw [nI_clamp (by omega)]; rfl) ?_⟩
    have hY' : ∀ e, e < 48 → upd ath d 0 e = fd_b2i (fd_bl th' e) := by
      intro e he
      rw [hth]
      show upd ath d 0 e = fd_b2i (fd_bl th e && !decide (e = d))
      by_cases z : e = d
      · rw [z, pk_us]; simp [fd_b2i]
      · rw [pk_un z, hY e he]; simp [z]
    exact fy_documents hY' ⟨by rw [hC.2.1], fd_mk ⟨hC, hp, h3, hY', hm, hh4, hh5⟩⟩
theorem i_vc_make {k : Nat} {u : SX} {v : SY} (I : i_Rel k u v) (hk : k + 4 ≤ 2048) (v1 : Int32) (v2 : Int32) (v3 : Int32) : wpX_make (fun r u' => wpY_make (fun r' v' => r' = r ∧ i_Rel (k + 4) u' v') v v1 v2 v3) u v1 v2 v3 := by
  refine fd_el (P := fun u v => wpX_make (fun r u' => wpY_make (fun r' v' => r' = r ∧ i_Rel (k + 4) u' v') v v1 v2 v3) u v1 v2 v3) ?_ I
  intro th mn wt wg va od fl fi se pa mo ath hi mk R
  have Q : i_Rel (k + 4) (th, nI mn, wt, wg, va, od, fl, fi, se, pa) (mo, ath, va, fl, fi, hi, mk) := fd_mk R
  have hY := R.2.2.2.1
  unfold wpX_make wpY_make
  dsimp only
  rcases fd_ix v1 (n := 10) (by decide) with h | ⟨a, ha, rfl⟩
  · refine fx_isTerm0 h ?_
    refine br_t rfl ?_
    exact fd_o2 9 h ⟨rfl, Q⟩
  refine fx_isTerm ha ?_
  refine br_f (by decide) ?_
  rcases fd_ix v2 (n := 10) (by decide) with h | ⟨b, hb, rfl⟩
  · refine fx_isTerm0 h ?_
    refine br_t rfl ?_
    exact fd_i2 9 ha (fd_o2 9 h ⟨rfl, Q⟩)
  refine fx_isTerm hb ?_
  refine br_f (by decide) ?_
  rcases fd_ix v3 (n := 10) (by decide) with h | ⟨c, hc, rfl⟩
  · refine fx_isTerm0 h ?_
    refine br_t rfl ?_
    exact fd_i2 9 ha (fd_i2 9 hb (fd_o1 9 h ⟨rfl, Q⟩))
  refine fx_isTerm hc ?_
  refine br_f (by decide) ?_
  obtain ⟨⟨h48, hcn, hG, h4, h5, hV⟩, hP, h3, _, hm, hh4, hh5⟩ := R
  have h31 : mn < 2 ^ 31 := Nat.lt_of_le_of_lt h4.1 (by decide)
  refine pk_lt mn 48 (fun z => ?_) (fun z => ?_)
  · obtain ⟨d, ⟨hd, hT⟩, hl⟩ := pk_least (fun i => i < 48 ∧ fd_bl th i = false) (fd_cnt_x 48 (by omega))
    have hl : ∀ e, e < d → fd_bl th e = true := fun e he => ts_nf (fun y => hl e he ⟨by omega, y⟩)
    have hth : fd_bl (th ||| ((1 : Int64) <<< ((nI d).toInt64 &&& 63))) = fun e => fd_bl th e || decide (e = d) := by
      funext e
      exact fd_bls th d (by omega) e
    have nd : ∀ e, fd_bl th e = true → e ≠ d := by
      intro e he y
      rw [y, hT] at he
      exact absurd he (by decide)
    refine ⟨d + 1, fx_make_39 hd hT hl ⟨8, fx_make_v (n := 1) hd ?_⟩ d 0 rfl⟩
    refine fx_make_t (T := fd_bl th) hd ha hb hc hth hT (fun f hf => fd_Grp_va (hG f hf) (fun e he => fd_mv_o (nd e he) (by omega))) (fd_Ord_va h4 (fun e he => fd_mv_o (nd e he) (by omega))) (fd_Ord_va h5 (fun e he => fd_mv_o (nd e he) (by omega))) fd_mv_0 fd_mv_1 fd_mv_2 fd_mv_3 (fd_mv_V hV ha hb hc) ?_ ?_ z h3 ?_
    · intro e he
      rw [hth]
      show (fd_bl th e || decide (e = d)) = false
      rw [h48 e he, decide_eq_false (by omega)]; rfl
    · rw [hth, hcn]
      exact (fd_cnt_1 (k := d) (by simp) hT 48 hd (fun i _ hn => by simp [hn])).symm
    · intro wt' wg' od' p hC hp
      have hY' : ∀ e, e < 48 → upd ath d 1 e = fd_b2i (fd_bl (th ||| ((1 : Int64) <<< ((nI d).toInt64 &&& 63))) e) := by
        intro e he
        rw [hth]
        show upd ath d 1 e = fd_b2i (fd_bl th e || decide (e = d))
        by_cases y : e = d
        · rw [y, pk_us]; simp [fd_b2i]
        · rw [pk_un y, hY e he]; simp [y]
      refine fd_i2 9 ha (fd_i2 9 hb (fd_i1 9 hc ⟨d + 1, fy_make_36 hY hd hT hl ⟨rfl, ?_⟩ d 0 rfl⟩))
      exact fd_mk ⟨hC, hp, h3, hY', hm, hh4, hh5⟩
  · have hall : ∀ e, e < 48 → fd_bl th e = true := by
      intro e he
      apply ts_nf
      intro y
      have : fd_cnt (fd_bl th) 48 < fd_cnt (fun _ => true) 48 := fd_cnt_lt (k := e) y rfl 48 he (fun _ _ _ => rfl)
      rw [fd_cnt_all 48 (fun _ _ => rfl)] at this
      omega
    exact fd_i2 9 ha (fd_i2 9 hb (fd_i1 9 hc ⟨49, fy_make_36f hY hall ⟨rfl, Q⟩ 48 0 rfl⟩))
end
