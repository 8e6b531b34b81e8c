section
theorem pk_us {f : Nat → Int32} {k : Nat} {x : Int32} : upd f k x k = x := if_pos rfl
theorem pk_un {f : Nat → Int32} {k j : Nat} {x : Int32} (h : j ≠ k) : upd f k x j = f j := if_neg h
theorem pk_sub {a b : Nat} (h : b ≤ a) : nI a - nI b = nI (a - b) := by
  obtain ⟨c, rfl⟩ : ∃ c, a = c + b := ⟨a - b, by omega⟩
  rw [← nI_add, Int32.add_sub_cancel, Nat.add_sub_cancel]
theorem pk_m1 (n : Nat) : nI (n + 1) + (-1) = nI n := by
  rw [← nI_1, Int32.add_assoc, show (1 : Int32) + (-1) = 0 from rfl, Int32.add_zero]
theorem pk_mul (a b : Nat) : nI a * nI b = nI (a * b) := (Int32.ofNat_mul a b).symm
theorem pk_div {a d : Nat} (ha : a < 2 ^ 31) (h0 : 0 < d) (hd : d < 2 ^ 31) : nI a / nI d = nI (a / d) := by
  apply Int32.toInt_inj.mp
  rw [lg_idiv_nonneg (by rw [nI_toInt ha]; omega) (by rw [nI_toInt hd]; omega), nI_toInt ha, nI_toInt hd, nI_toInt (Nat.lt_of_le_of_lt (Nat.div_le_self a d) ha)]
  first | rfl | exact (Int.natCast_ediv _ _).symm
theorem pk_rem {a d : Nat} (ha : a < 2 ^ 31) (h0 : 0 < d) (hd : d < 2 ^ 31) : nI a - nI a / nI d * nI d = nI (a % d) := by
  rw [pk_div ha h0 hd, pk_mul, pk_sub (Nat.div_mul_le_self a d)]
  exact congrArg nI (by have := Nat.div_add_mod' a d; omega)
theorem pk_sub_toInt {a b : Nat} (ha : a < 2 ^ 30) (hb : b < 2 ^ 30) : (nI a - nI b).toInt = (a : Int) - b := by
  rw [Int32.toInt_sub, nI_toInt (by omega), nI_toInt (by omega)]
  exact Int.bmod_eq_of_le (by omega) (by omega)
theorem pk_sneg {a b : Nat} (hb : b < 2 ^ 30) (h : a < b) : nI a - nI b < 0 := by
  rw [Int32.lt_iff_toInt_lt, pk_sub_toInt (by omega) hb, show (0 : Int32).toInt = 0 from by decide]
  omega
theorem pk_ix (x : Int32) {n : Nat} (hn : n < 2 ^ 31) : x < 0 ∨ nI n ≤ x ∨ ∃ j : Nat, j < n ∧ x = nI j := by
  by_cases h : x < 0
  · exact Or.inl h
  · obtain ⟨j, hj, rfl⟩ := nI_of h
    by_cases h2 : j < n
    · exact Or.inr (Or.inr ⟨j, h2, rfl⟩)
    · exact Or.inr (Or.inl (nI_le (by omega) hj))
theorem pk_le {x y : Int32} {A B : Prop} (a b : Nat) (f : a ≤ b → A) (g : b < a → B) (hx : x = nI a := by rfl) (hy : y = nI b := by rfl) (ha : a < 2 ^ 31 := by omega) (hb : b < 2 ^ 31 := by omega) : (x ≤ y → A) ∧ (¬ x ≤ y → B) := by
  subst hx hy
  rw [nI_leI ha hb]
  exact ⟨f, fun z => g (by omega)⟩
theorem pk_lt {x y : Int32} {A B : Prop} (a b : Nat) (f : a < b → A) (g : b ≤ a → B) (hx : x = nI a := by rfl) (hy : y = nI b := by rfl) (ha : a < 2 ^ 31 := by omega) (hb : b < 2 ^ 31 := by omega) : (x < y → A) ∧ (¬ x < y → B) := by
  subst hx hy
  rw [nI_ltI ha hb]
  exact ⟨f, fun z => g (by omega)⟩
theorem pk_eq {x y : Int32} {A B : Prop} (a b : Nat) (f : a = b → A) (g : a ≠ b → B) (hx : x = nI a := by rfl) (hy : y = nI b := by rfl) (ha : a < 2 ^ 31 := by omega) (hb : b < 2 ^ 31 := by omega) : (x = y → A) ∧ (¬ x = y → B) := by
  subst hx hy
  rw [nI_eq ha hb]
  exact ⟨f, g⟩
theorem pk_in {x : Int32} (n N : Nat) (h : n < N) (hx : x = nI n := by rfl) (hN : N < 2 ^ 31 := by omega) : vp_in x N := by
  subst hx
  exact vp_in_nI h hN
theorem pk_cl {x : Int32} (n : Nat) (hx : x = nI n := by rfl) (h : n < 2 ^ 31 := by omega) : x.toNatClampNeg = n := by
  subst hx
  exact nI_clamp h
theorem pk_tn {n : Nat} (h : n < 2 ^ 32) : (nI n).toBitVec.toNat = n := Nat.mod_eq_of_lt h
theorem pk_and (x : Int32) {m : Int32} (k : Nat) (hm : m.toBitVec.toNat = 2 ^ k - 1) : x &&& m = nI (x.toBitVec.toNat % 2 ^ k) := by
  apply Int32.toBitVec_inj.mp
  apply BitVec.eq_of_toNat_eq
  rw [Int32.toBitVec_and, BitVec.toNat_and, hm, Nat.and_two_pow_sub_one_eq_mod]
  show _ = (BitVec.ofNat 32 _).toNat
  rw [BitVec.toNat_ofNat]
  exact (Nat.mod_eq_of_lt (Nat.lt_of_le_of_lt (Nat.mod_le _ _) x.toBitVec.isLt)).symm
theorem pk_andN {n : Nat} (h : n < 2 ^ 32) {m : Int32} (k : Nat) (hm : m.toBitVec.toNat = 2 ^ k - 1) : nI n &&& m = nI (n % 2 ^ k) := by
  rw [pk_and _ k hm, pk_tn h]
theorem pk_andE (x : Int32) {m : Int32} (k : Nat) (hm : m.toBitVec.toNat = 2 ^ k - 1) : ∃ j : Nat, j < 2 ^ k ∧ x &&& m = nI j := ⟨_, Nat.mod_lt _ (Nat.two_pow_pos k), pk_and x k hm⟩
theorem pk_andIn (x : Int32) {m : Int32} (k : Nat) (hm : m.toBitVec.toNat = 2 ^ k - 1) (hk : k ≤ 30) : vp_in (x &&& m) (2 ^ k) := by
  obtain ⟨j, hj, e⟩ := pk_andE x k hm
  rw [e]
  exact vp_in_nI hj (Nat.lt_of_le_of_lt (Nat.pow_le_pow_right (by decide) hk) (by decide))
theorem pk_shl (a s : Int32) (k : Nat) (hs : (s.toBitVec.smod 32).toNat = k) : (a <<< s).toBitVec.toNat = a.toBitVec.toNat * 2 ^ k % 2 ^ 32 := by
  show (a.toBitVec <<< (s.toBitVec.smod 32).toNat).toNat = _
  rw [hs, BitVec.toNat_shiftLeft, Nat.shiftLeft_eq]
theorem pk_shlN {n : Nat} (s : Int32) (k : Nat) (hs : (s.toBitVec.smod 32).toNat = k) (h : n * 2 ^ k < 2 ^ 32) : nI n <<< s = nI (n * 2 ^ k) := by
  apply Int32.toBitVec_inj.mp
  apply BitVec.eq_of_toNat_eq
  have hn : n < 2 ^ 32 := Nat.lt_of_le_of_lt (Nat.le_mul_of_pos_right n (Nat.two_pow_pos k)) h
  rw [pk_shl _ _ k hs, pk_tn hn, pk_tn h, Nat.mod_eq_of_lt h]
theorem pk_shr (a s : Int32) (k : Nat) (hs : (s.toBitVec.smod 32).toNat = k) : (a >>> s).toInt = a.toInt >>> k := by
  show (a.toBitVec.sshiftRight (s.toBitVec.smod 32).toNat).toInt = _
  rw [hs, BitVec.toInt_sshiftRight]
  rfl
theorem pk_shrN {n : Nat} (h : n < 2 ^ 31) (s : Int32) (k : Nat) (hs : (s.toBitVec.smod 32).toNat = k) : nI n >>> s = nI (n / 2 ^ k) := by
  apply Int32.toInt_inj.mp
  have h2 : n / 2 ^ k ≤ n := Nat.div_le_self _ _
  rw [pk_shr _ _ k hs, nI_toInt h, nI_toInt (by omega), Int.shiftRight_eq_div_pow]
  rfl
theorem pk_ushr (x s : Int32) (k : Nat) (hs : ((s.toUInt32 &&& Int32.toUInt32 31).toBitVec % 32).toNat = k) : (x.toUInt32 >>> (s.toUInt32 &&& Int32.toUInt32 31)).toInt32.toBitVec.toNat = x.toBitVec.toNat / 2 ^ k := by
  have e : (x.toUInt32 >>> (s.toUInt32 &&& Int32.toUInt32 31)).toInt32.toBitVec = x.toBitVec >>> k := by
    rw [← hs]
    exact UInt32.toBitVec_shiftRight _ _
  rw [e, BitVec.toNat_ushiftRight, Nat.shiftRight_eq_div_pow]
theorem pk_ushrN {n : Nat} (hn : n < 2 ^ 32) (s : Int32) (k : Nat) (hs : ((s.toUInt32 &&& Int32.toUInt32 31).toBitVec % 32).toNat = k) : ((nI n).toUInt32 >>> (s.toUInt32 &&& Int32.toUInt32 31)).toInt32 = nI (n / 2 ^ k) := by
  apply Int32.toBitVec_inj.mp
  apply BitVec.eq_of_toNat_eq
  rw [pk_ushr _ s k hs, pk_tn hn, pk_tn (Nat.lt_of_le_of_lt (Nat.div_le_self _ _) hn)]
theorem ek_if {c d A B : Prop} (e : c ↔ d) (f : d → A) (g : ¬ d → B) : (c → A) ∧ (¬ c → B) :=
  ⟨fun z => f (e.mp z), fun z => g (fun y => z (e.mpr y))⟩
theorem ek_v {α : Sort _} {P : α → Prop} {a b : α} (e : a = b) (h : P b) : P a := e ▸ h
def bt (x : Int32) (i : Nat) : Bool := x.toBitVec.getLsbD i
theorem b_ext {x y : Int32} (h : ∀ i, i < 32 → bt x i = bt y i) : x = y := Int32.toBitVec_inj.mp (BitVec.eq_of_getLsbD_eq (fun i hi => h i hi))
theorem b_or (x y : Int32) (i : Nat) : bt (x ||| y) i = (bt x i || bt y i) := by unfold bt; rw [Int32.toBitVec_or, BitVec.getLsbD_or]
theorem b_and (x y : Int32) (i : Nat) : bt (x &&& y) i = (bt x i && bt y i) := by unfold bt; rw [Int32.toBitVec_and, BitVec.getLsbD_and]
theorem b_xor (x y : Int32) (i : Nat) : bt (x ^^^ y) i = (bt x i ^^ bt y i) := by unfold bt; rw [Int32.toBitVec_xor, BitVec.getLsbD_xor]
theorem b_big {x : Int32} {i : Nat} (h : 32 ≤ i) : bt x i = false := BitVec.getLsbD_of_ge _ _ h
theorem b_255 (i : Nat) : bt 255 i = decide (i < 8) := by
  rcases Nat.lt_or_ge i 32 with h | h
  · exact (by decide +kernel : ∀ i, i < 32 → bt 255 i = decide (i < 8)) i h
  · rw [b_big h, decide_eq_false (by omega)]
theorem b_65535 (i : Nat) : bt 65535 i = decide (i < 16) := by
  rcases Nat.lt_or_ge i 32 with h | h
  · exact (by decide +kernel : ∀ i, i < 32 → bt 65535 i = decide (i < 16)) i h
  · rw [b_big h, decide_eq_false (by omega)]
theorem b_m1 : ∀ i, i < 32 → bt (-1) i = true := by decide +kernel
theorem b_0 (i : Nat) : bt 0 i = false := BitVec.getLsbD_zero
theorem s_l : ∀ n, n < 32 → ((nI n &&& 31).toBitVec.smod 32).toNat = n := by decide +kernel
theorem s_u : ∀ n, n < 32 → (((nI n).toUInt32 &&& Int32.toUInt32 31).toBitVec % 32).toNat = n := by decide +kernel
theorem b_shl (n : Nat) (hn : n < 32) (x : Int32) {i : Nat} (hi : i < 32) : bt (x <<< (nI n &&& 31)) i = (decide (n ≤ i) && bt x (i - n)) := by
  unfold bt
  rw [Int32.toBitVec_shiftLeft]
  show (x.toBitVec <<< ((nI n &&& 31).toBitVec.smod 32).toNat).getLsbD i = _
  rw [s_l n hn, BitVec.getLsbD_shiftLeft]
  rcases Nat.lt_or_ge i n with h | h
  · simp [h, Nat.not_le.mpr h]
  · simp [hi, h, Nat.not_lt.mpr h]
theorem b_ushr (n : Nat) (hn : n < 32) (x : Int32) (i : Nat) : bt ((x.toUInt32 >>> ((nI n).toUInt32 &&& Int32.toUInt32 31)).toInt32) i = bt x (n + i) := by
  show (x.toUInt32 >>> ((nI n).toUInt32 &&& Int32.toUInt32 31)).toBitVec.getLsbD i = x.toUInt32.toBitVec.getLsbD (n + i)
  rw [UInt32.toBitVec_shiftRight]
  show (x.toUInt32.toBitVec >>> (((nI n).toUInt32 &&& Int32.toUInt32 31).toBitVec % 32).toNat).getLsbD i = _
  rw [s_u n hn, BitVec.getLsbD_ushiftRight]
theorem b_sshr (n : Nat) (hn : n < 32) (x : Int32) {i : Nat} (hi : i < 32) : bt (x >>> (nI n &&& 31)) i = if n + i < 32 then bt x (n + i) else bt x 31 := by
  unfold bt
  rw [Int32.toBitVec_shiftRight]
  show (x.toBitVec.sshiftRight ((nI n &&& 31).toBitVec.smod 32).toNat).getLsbD i = _
  rw [s_l n hn, BitVec.getLsbD_sshiftRight, BitVec.msb_eq_getLsbD_last]
  simp [hi]
end
section
/-! bits and counts, pure -/
theorem cs_b1 (i : Nat) : bt 1 i = decide (i = 0) := by
  rcases Nat.lt_or_ge i 32 with h | h
  · exact (by decide +kernel : ∀ i, i < 32 → bt 1 i = decide (i = 0)) i h
  · rw [b_big h, decide_eq_false (by omega)]
theorem cs_sh1 (l : Nat) (hl : l < 32) {i : Nat} (hi : i < 32) : bt ((1 : Int32) <<< (nI l &&& 31)) i = decide (i = l) := by
  rw [b_shl l hl 1 hi, cs_b1, Bool.eq_iff_iff]
  simp only [Bool.and_eq_true, decide_eq_true_eq]
  omega
theorem cs_bv (m : Int32) (l : Nat) (hl : l < 32) : ((m.toUInt32 >>> ((nI l).toUInt32 &&& Int32.toUInt32 31)).toInt32 &&& 1) = nI (bt m l).toNat := by
  apply b_ext
  intro i hi
  rw [b_and, b_ushr l hl, cs_b1]
  rcases Nat.eq_zero_or_pos i with h | h
  · subst h
    rw [Nat.add_zero]
    cases bt m l <;> decide
  · rw [decide_eq_false (p := i = 0) (by omega), Bool.and_false]
    cases bt m l
    · exact (b_0 i).symm
    · show false = bt 1 i
      rw [cs_b1, decide_eq_false (p := i = 0) (by omega)]
theorem cs_bz (m : Int32) (l : Nat) (hl : l < 32) : ((m.toUInt32 >>> ((nI l).toUInt32 &&& Int32.toUInt32 31)).toInt32 &&& 1) = 0 ↔ bt m l = false := by
  rw [cs_bv m l hl]
  cases bt m l
  · exact ⟨fun _ => rfl, fun _ => rfl⟩
  · exact ⟨fun z => absurd z (by decide), fun z => absurd z (by decide)⟩
theorem cs_bz1 (m : Int32) (l : Nat) (hl : l < 32) (h : bt m l = true) : ¬ ((m.toUInt32 >>> ((nI l).toUInt32 &&& Int32.toUInt32 31)).toInt32 &&& 1) = 0 := by
  rw [cs_bz m l hl, h]
  decide
theorem cs_btN (n : Nat) {i : Nat} (hi : i < 32) : bt (nI n) i = n.testBit i := by
  show (BitVec.ofNat 32 n).getLsbD i = _
  rw [BitVec.getLsbD_ofNat]
  simp [hi]
theorem cs_lt2 {y : Int32} {w i : Nat} (h : y.toBitVec.toNat < 2 ^ w) (hi : w ≤ i) : bt y i = false := by
  show y.toBitVec.getLsbD i = false
  rw [← BitVec.testBit_toNat]
  exact Nat.testBit_lt_two_pow (Nat.lt_of_lt_of_le h (Nat.pow_le_pow_right (by decide) hi))
theorem cs_mk : ∀ w, w < 32 → ∀ j, j < 32 → bt (((1 : Int32) <<< (nI w &&& 31)) - 1) j = decide (j < w) := by decide +kernel
theorem cs_z0 {x : Int32} (h : ∀ i, i < 32 → bt x i = false) : x = 0 := b_ext fun i hi => by rw [h i hi, b_0]
def cs_bF (x : Int32) : Nat → Nat
  | 0 => 0
  | k + 1 => if bt x k = true then k + 1 else cs_bF x k
theorem cs_bF_le (x : Int32) : ∀ n, cs_bF x n ≤ n := by
  intro n
  induction n with
  | zero => exact Nat.le_refl 0
  | succ n ih => unfold cs_bF; split <;> omega
theorem cs_bF_hi (x : Int32) : ∀ n i, i < n → cs_bF x n ≤ i → bt x i = false := by
  intro n
  induction n with
  | zero => intro i h; omega
  | succ n ih =>
    intro i h h2
    unfold cs_bF at h2
    split at h2
    · omega
    · rename_i hb
      rcases Nat.lt_or_ge i n with z | z
      · exact ih i z h2
      · obtain rfl : i = n := by omega
        simpa using hb
theorem cs_bF_lt (x : Int32) : x.toBitVec.toNat < 2 ^ cs_bF x 32 := by
  apply Nat.lt_pow_two_of_testBit
  intro i hi
  rw [BitVec.testBit_toNat]
  rcases Nat.lt_or_ge i 32 with z | z
  · exact cs_bF_hi x 32 i z hi
  · exact b_big z
theorem cs_bF16 : ∀ m, m < 16 → cs_bF (nI m) 32 ≤ 4 := by decide +kernel
theorem cs_ixB {s i j : Nat} (hs : s ≤ 16) (hi : i < s) (hj : cs_bF (nI (s - 1)) 32 ≤ j) : bt (nI i) j = false := by
  apply cs_lt2 (w := cs_bF (nI (s - 1)) 32) _ hj
  have h := cs_bF_lt (nI (s - 1))
  rw [pk_tn (by omega)] at h ⊢
  omega
theorem cs_subT {x y : Int32} (h : y ≤ x) : ((x - y).toBitVec.toNat : Int) = x.toInt - y.toInt := by
  rw [Int32.le_iff_toInt_le] at h
  have hx := x.toBitVec.isLt
  have hy := y.toBitVec.isLt
  have cx := BitVec.toInt_eq_toNat_cond x.toBitVec
  have cy := BitVec.toInt_eq_toNat_cond y.toBitVec
  rw [Int32.toBitVec_sub, BitVec.toNat_sub]
  show (((2 ^ 32 - y.toBitVec.toNat + x.toBitVec.toNat) % 2 ^ 32 : Nat) : Int) = x.toBitVec.toInt - y.toBitVec.toInt
  replace h : y.toBitVec.toInt ≤ x.toBitVec.toInt := h
  generalize x.toBitVec.toInt = xi at *
  generalize y.toBitVec.toInt = yi at *
  generalize x.toBitVec.toNat = xn at *
  generalize y.toBitVec.toNat = yn at *
  split at cx <;> split at cy <;> omega
theorem cs_pkB {f l h : Int32} (h1 : l ≤ f) (h2 : f ≤ h) {i : Nat} (hi : cs_bF (h - l) 32 ≤ i) : bt (f - l) i = false := by
  apply cs_lt2 (w := cs_bF (h - l) 32) _ hi
  have a := cs_bF_lt (h - l)
  have b := cs_subT h1
  have c := cs_subT (Int32.le_trans h1 h2)
  rw [Int32.le_iff_toInt_le] at h2
  omega
/-! counting -/
def cs_cn (P : Nat → Bool) : Nat → Nat
  | 0 => 0
  | n + 1 => cs_cn P n + (P n).toNat
theorem cs_cn_le (P : Nat → Bool) : ∀ n, cs_cn P n ≤ n := by
  intro n
  induction n with
  | zero => exact Nat.le_refl 0
  | succ n ih =>
    have := Bool.toNat_le (P n)
    unfold cs_cn; omega
theorem cs_cn_t {P : Nat → Bool} {n : Nat} (h : P n = true) : cs_cn P (n + 1) = cs_cn P n + 1 := by
  show cs_cn P n + (P n).toNat = _
  rw [h]; rfl
theorem cs_cn_f {P : Nat → Bool} {n : Nat} (h : P n = false) : cs_cn P (n + 1) = cs_cn P n := by
  show cs_cn P n + (P n).toNat = _
  rw [h]; rfl
theorem cs_cn_mono (P : Nat → Bool) (a : Nat) : ∀ d, cs_cn P a ≤ cs_cn P (a + d) := by
  intro d
  induction d with
  | zero => exact Nat.le_refl _
  | succ d ih =>
    show cs_cn P a ≤ cs_cn P (a + d) + (P (a + d)).toNat
    omega
theorem cs_cn_mn (P : Nat → Bool) {a b : Nat} (h : a ≤ b) : cs_cn P a ≤ cs_cn P b := by
  obtain ⟨d, rfl⟩ : ∃ d, b = a + d := ⟨b - a, by omega⟩
  exact cs_cn_mono P a d
theorem cs_cn_add (P : Nat → Bool) (a : Nat) : ∀ b, cs_cn P (a + b) = cs_cn P a + cs_cn (fun i => P (a + i)) b := by
  intro b
  induction b with
  | zero => rfl
  | succ b ih =>
    show cs_cn P (a + b) + (P (a + b)).toNat = cs_cn P a + (cs_cn (fun i => P (a + i)) b + (P (a + b)).toNat)
    omega
theorem cs_cn_ext {P Q : Nat → Bool} : ∀ n, (∀ i, i < n → P i = Q i) → cs_cn P n = cs_cn Q n := by
  intro n
  induction n with
  | zero => intro _; rfl
  | succ n ih =>
    intro h
    show cs_cn P n + (P n).toNat = cs_cn Q n + (Q n).toNat
    rw [ih (fun i hi => h i (by omega)), h n (by omega)]
theorem cs_cn_stop {P : Nat → Bool} {a b : Nat} (h : a ≤ b) (hz : ∀ i, a ≤ i → P i = false) : cs_cn P b = cs_cn P a := by
  obtain ⟨d, rfl⟩ : ∃ d, b = a + d := ⟨b - a, by omega⟩
  induction d with
  | zero => rfl
  | succ d ih =>
    show cs_cn P (a + d) + (P (a + d)).toNat = _
    rw [hz (a + d) (by omega), ih (by omega)]
    rfl
theorem cs_cn_ex (P : Nat → Bool) : ∀ n idx, idx < cs_cn P n → ∃ k, k < n ∧ P k = true ∧ cs_cn P k = idx := by
  intro n
  induction n with
  | zero => intro idx h; exact absurd h (Nat.not_lt_zero _)
  | succ n ih =>
    intro idx h
    rcases Nat.lt_or_ge idx (cs_cn P n) with z | z
    · obtain ⟨k, hk, h1, h2⟩ := ih idx z
      exact ⟨k, by omega, h1, h2⟩
    · cases hp : P n
      · rw [cs_cn_f hp] at h; omega
      · rw [cs_cn_t hp] at h
        exact ⟨n, by omega, hp, by omega⟩
end
section
/-! ones, oneAt, bitsFor -/
theorem xo_ones_l {post : Int32 → Prop} (m : Int32) (h : post (nI (cs_cn (bt m) 16))) : ∀ d j, j + d = 16 → wX_ones_4 post m (d + 1) (nI (cs_cn (bt m) j)) (nI j) := by
  intro d
  induction d with
  | zero =>
    intro j hj
    obtain rfl : j = 16 := by omega
    exact br_t (nI_le (a := 16) (b := 16) (by omega) (by decide)) h
  | succ d ih =>
    intro j hj
    refine br_f (nI_ge (a := j) (b := 16) (by omega) (by decide)) ?_
    refine nm_r (e' := nI (cs_cn (bt m) (j + 1))) ?_ (nm_r (nI_1 j) (ih (j + 1) (by omega)))
    rw [cs_bv m j (by omega), nI_add]
    rfl
theorem x_ones {post : Int32 → Prop} (m : Int32) (h : post (nI (cs_cn (bt m) 16))) : wpX_ones post m := Exists.intro 17 (xo_ones_l m h 16 0 rfl)
theorem xo_oneAt_l {post : Int32 → Prop} (m : Int32) {idx k : Nat} (hk : k < 16) (hb : bt m k = true) (hc : cs_cn (bt m) k = idx) (h : post (nI k)) : ∀ d j rest, j + d = k → rest + cs_cn (bt m) j = idx → wX_oneAt_4 post m (d + 1) (nI rest) (nI j) := by
  have hl := cs_cn_le (bt m) k
  intro d
  induction d with
  | zero =>
    intro j rest hj hr
    obtain rfl : j = k := by omega
    obtain rfl : rest = 0 := by omega
    exact br_f (nI_ge (a := j) (b := 16) (by omega) (by decide)) (br_f (cs_bz1 m j (by omega) hb) (br_t rfl h))
  | succ d ih =>
    intro j rest hj hr
    have hm := cs_cn_mn (bt m) (a := j + 1) (b := k) (by omega)
    refine br_f (nI_ge (a := j) (b := 16) (by omega) (by decide)) ?_
    cases hz : bt m j
    · have hf := cs_cn_f hz
      exact br_t ((cs_bz m j (by omega)).mpr hz) (nm_r (nI_1 j) (ih (j + 1) rest (by omega) (by omega)))
    · have ht := cs_cn_t hz
      obtain ⟨q, rfl⟩ : ∃ q, rest = q + 1 := ⟨rest - 1, by omega⟩
      exact br_f (cs_bz1 m j (by omega) hz) (br_f (nI_ne0 (by omega) (by omega)) (nm_r (pk_m1 q) (nm_r (nI_1 j) (ih (j + 1) q (by omega) (by omega)))))
theorem x_oneAt {post : Int32 → Prop} (m : Int32) {idx k : Nat} (hk : k < 16) (hb : bt m k = true) (hc : cs_cn (bt m) k = idx) (h : post (nI k)) : wpX_oneAt post m (nI idx) := Exists.intro (k + 1) (xo_oneAt_l m hk hb hc h k 0 idx (by omega) (Nat.add_zero idx))
theorem xo_bits_l {post : Int32 → Prop} (x : Int32) (h : post (nI (cs_bF x 32))) : ∀ d j, j + d = 32 → wX_bitsFor_4 post x (d + 1) (nI (cs_bF x j)) (nI j) := by
  intro d
  induction d with
  | zero =>
    intro j hj
    obtain rfl : j = 32 := by omega
    exact br_t (nI_le (a := 32) (b := 32) (by omega) (by decide)) h
  | succ d ih =>
    intro j hj
    have hn := ih (j + 1) (by omega)
    have e : cs_bF x (j + 1) = if bt x j = true then j + 1 else cs_bF x j := rfl
    refine br_f (nI_ge (a := j) (b := 32) (by omega) (by decide)) ?_
    cases hz : bt x j
    · rw [hz, if_neg (by decide)] at e
      rw [e] at hn
      exact br_t ((cs_bz x j (by omega)).mpr hz) (nm_r (nI_1 j) hn)
    · rw [hz, if_pos rfl] at e
      rw [e] at hn
      exact br_f (cs_bz1 x j (by omega) hz) (nm_r (nI_1 j) (nm_r (nI_1 j) hn))
theorem x_bitsFor {post : Int32 → Prop} (x : Int32) (h : post (nI (cs_bF x 32))) : wpX_bitsFor post x := Exists.intro 33 (xo_bits_l x h 32 0 rfl)
/-! the stream of bits -/
def cs_bs (w : Nat → Int32) (a t : Nat) : Bool := bt (w (a + t / 32)) (t % 32)
def cs_fl (w g : Nat → Int32) (a m : Nat) : Nat → Int32 := fun j => if a ≤ j ∧ j < a + m then g (j - a) else w j
theorem cs_fl_0 (w g : Nat → Int32) (a : Nat) : cs_fl w g a 0 = w := by
  funext j
  exact if_neg (by omega)
theorem cs_fl_s (w g : Nat → Int32) (a i : Nat) : upd (cs_fl w g a i) (a + i) (g i) = cs_fl w g a (i + 1) := by
  funext j
  show (if j = a + i then g i else if a ≤ j ∧ j < a + i then g (j - a) else w j) = (if a ≤ j ∧ j < a + (i + 1) then g (j - a) else w j)
  split
  · rename_i e
    rw [if_pos (by omega), show j - a = i by omega]
  · split
    · rw [if_pos (by omega)]
    · rw [if_neg (by omega)]
theorem cs_fl_in {w g : Nat → Int32} {a m p : Nat} (h : p < m) : cs_fl w g a m (a + p) = g p := by
  show (if a ≤ a + p ∧ a + p < a + m then g (a + p - a) else w (a + p)) = g p
  rw [if_pos (by omega), Nat.add_sub_cancel_left]
theorem cs_fl_out {w g : Nat → Int32} {a m j : Nat} (h : j < a ∨ a + m ≤ j) : cs_fl w g a m j = w j := if_neg (by omega)
section
variable {vr vc : Int32} {op lm fo lo hg sz wo rg rl rh va : Nat → Int32}
theorem x_clear_l {post : SX → Prop} (a w : Nat) (hw : w < 32) (ha : a + 16 ≤ 420) (h : post (vr, vc, op, lm, fo, lo, hg, sz, cs_fl wo (fun _ => 0) a ((w + 1) / 2), rg, rl, rh, va)) : ∀ d i, i + d = (w + 1) / 2 → wX_clearBits_2 post (nI a) (nI w) vr vc (d + 1) (nI i) op lm fo lo hg sz (cs_fl wo (fun _ => 0) a i) rg rl rh va := by
  intro d
  induction d with
  | zero =>
    intro i hj
    have e : (2 : Int32) * nI i = nI (2 * i) := pk_mul 2 i
    obtain rfl : i = (w + 1) / 2 := by omega
    refine br_t ?_ h
    rw [e]
    exact nI_le (by omega) (by omega)
  | succ d ih =>
    intro i hj
    have e : (2 : Int32) * nI i = nI (2 * i) := pk_mul 2 i
    refine br_f ?_ (And.intro ?_ (nm_r (e' := cs_fl wo (fun _ => 0) a (i + 1)) ?_ (nm_r (nI_1 i) (ih (i + 1) (by omega)))))
    · rw [e]
      exact nI_ge (by omega) (by omega)
    · rw [nI_add]
      exact vp_in_nI (by omega) (by omega)
    · rw [nI_add, nI_clamp (by omega)]
      exact cs_fl_s wo (fun _ => 0) a i
theorem x_clear {post : SX → Prop} (a w : Nat) (hw : w < 32) (ha : a + 16 ≤ 420) (h : post (vr, vc, op, lm, fo, lo, hg, sz, cs_fl wo (fun _ => 0) a ((w + 1) / 2), rg, rl, rh, va)) : wpX_clearBits post (vr, vc, op, lm, fo, lo, hg, sz, wo, rg, rl, rh, va) (nI a) (nI w) := by
  have k := x_clear_l a w hw ha h ((w + 1) / 2) 0 (by omega)
  rw [cs_fl_0] at k
  exact Exists.intro _ k
theorem x_getBits {post : Int32 → Prop} (a w k B : Nat) (hB : w * k = B) (hw : w < 32) (hk : k < 16) (ha : a + 16 ≤ 420) (r : Int32) (hr : ∀ j, j < 32 → bt r j = (decide (j < w) && cs_bs wo a (B + j))) (h : post r) :
    wpX_getBits post (vr, vc, op, lm, fo, lo, hg, sz, wo, rg, rl, rh, va) (nI a) (nI w) (nI k) := by
  have hB2 : B + w ≤ 16 * w := by
    have := Nat.mul_le_mul_left w (show k + 1 ≤ 16 by omega)
    rw [Nat.mul_add, hB] at this
    omega
  have eB : nI w * nI k = nI B := by rw [pk_mul, hB]
  unfold wpX_getBits
  dsimp only
  refine nm_r eB ?_
  clear hB eB hk
  have e1 : nI B >>> ((5 : Int32) &&& 31) = nI (B / 32) := pk_shrN (by omega) _ 5 (by decide)
  have e2 : nI B &&& 31 = nI (B % 32) := pk_andN (by omega) 5 (by decide)
  have e3 : (32 : Int32) - nI (B % 32) = nI (32 - B % 32) := pk_sub (a := 32) (by omega)
  rcases Nat.eq_zero_or_pos w with h0 | h0
  · subst h0
    have er : r = 0 := cs_z0 fun i hj => by rw [hr i hj]; simp
    rw [er] at h
    exact br_t rfl h
  · refine br_f (nI_ne0 h0 (by omega)) ?_
    rw [e1, e2, e3, nI_add a (B / 32), nI_add (B % 32) w, nI_1 (a + B / 32), nI_clamp (n := a + B / 32) (by omega), nI_clamp (n := a + B / 32 + 1) (by omega)]
    refine ⟨vp_in_nI (by omega) (by omega), nm_e ?_⟩
    rcases Nat.lt_or_ge 32 (B % 32 + w) with z | z
    · refine br_f (nI_ge (b := B % 32 + w) (a := 32) z (by omega)) ⟨vp_in_nI (by omega) (by omega), nm_e ?_⟩
      unfold wX_getBits_69
      refine ek_v (P := post) (b_ext fun j hj => ?_) h
      rw [b_and, cs_mk w hw j hj, b_or, b_ushr (B % 32) (by omega), b_shl (32 - B % 32) (by omega) _ hj, hr j hj, Bool.and_comm]
      congr 1
      unfold cs_bs
      rcases Nat.lt_or_ge j (32 - B % 32) with y | y
      · rw [show a + (B + j) / 32 = a + B / 32 by omega, show (B + j) % 32 = B % 32 + j by omega, decide_eq_false (p := 32 - B % 32 ≤ j) (by omega), Bool.false_and, Bool.or_false]
      · rw [show a + (B + j) / 32 = a + B / 32 + 1 by omega, show (B + j) % 32 = j - (32 - B % 32) by omega, decide_eq_true (p := 32 - B % 32 ≤ j) y, Bool.true_and, b_big (i := B % 32 + j) (by omega), Bool.false_or]
    · refine br_t (nI_le (a := B % 32 + w) (b := 32) z (by omega)) ?_
      unfold wX_getBits_69
      refine ek_v (P := post) (b_ext fun j hj => ?_) h
      rw [b_and, cs_mk w hw j hj, b_ushr (B % 32) (by omega), hr j hj, Bool.and_comm]
      unfold cs_bs
      rcases Nat.lt_or_ge j w with y | y
      · rw [show a + (B + j) / 32 = a + B / 32 by omega, show (B + j) % 32 = B % 32 + j by omega]
      · rw [decide_eq_false (p := j < w) (by omega), Bool.false_and, Bool.false_and]
theorem x_putBits {post : SX → Prop} (a w k B : Nat) (v : Int32) (hB : w * k = B) (hw : w < 32) (hk : k < 16) (ha : a + 16 ≤ 420) (hv : ∀ i, w ≤ i → bt v i = false)
    (h : ∀ wn : Nat → Int32, (∀ t, cs_bs wn a t = (cs_bs wo a t || (decide (B ≤ t) && bt v (t - B)))) → (∀ j, (j < a ∨ a + (w + 1) / 2 ≤ j) → wn j = wo j) → post (vr, vc, op, lm, fo, lo, hg, sz, wn, rg, rl, rh, va)) :
    wpX_putBits post (vr, vc, op, lm, fo, lo, hg, sz, wo, rg, rl, rh, va) (nI a) (nI w) (nI k) v := by
  have hB2 : B + w ≤ 16 * w := by
    have := Nat.mul_le_mul_left w (show k + 1 ≤ 16 by omega)
    rw [Nat.mul_add, hB] at this
    omega
  have eB : nI w * nI k = nI B := by rw [pk_mul, hB]
  unfold wpX_putBits
  dsimp only
  refine nm_r eB ?_
  clear hB eB hk
  have e1 : nI B >>> ((5 : Int32) &&& 31) = nI (B / 32) := pk_shrN (by omega) _ 5 (by decide)
  have e2 : nI B &&& 31 = nI (B % 32) := pk_andN (by omega) 5 (by decide)
  have e3 : (32 : Int32) - nI (B % 32) = nI (32 - B % 32) := pk_sub (a := 32) (by omega)
  rcases Nat.eq_zero_or_pos w with h0 | h0
  · subst h0
    refine br_t rfl (h wo (fun t => ?_) (fun j _ => rfl))
    rw [hv _ (by omega), Bool.and_false, Bool.or_false]
  · refine br_f (nI_ne0 h0 (by omega)) ?_
    rw [e1, e2, e3, nI_add a (B / 32), nI_add (B % 32) w, nI_1 (a + B / 32), nI_clamp (n := a + B / 32) (by omega), nI_clamp (n := a + B / 32 + 1) (by omega)]
    have hi1 : vp_in (nI (a + B / 32)) 420 := vp_in_nI (by omega) (by omega)
    refine ⟨hi1, hi1, nm_e ?_⟩
    rcases Nat.lt_or_ge 32 (B % 32 + w) with z | z
    · have hi2 : vp_in (nI (a + B / 32 + 1)) 420 := vp_in_nI (by omega) (by omega)
      refine br_f (nI_ge (b := B % 32 + w) (a := 32) z (by omega)) ⟨hi2, hi2, nm_e (h _ (fun t => ?_) (fun j hj => ?_))⟩
      · unfold cs_bs
        by_cases y1 : t / 32 = B / 32 + 1
        · rw [show a + t / 32 = a + B / 32 + 1 by omega, pk_us, pk_un (by omega), b_or, b_ushr (32 - B % 32) (by omega), decide_eq_true (p := B ≤ t) (by omega), Bool.true_and, show t - B = 32 - B % 32 + t % 32 by omega]
        · rw [pk_un (by omega)]
          by_cases y : t / 32 = B / 32
          · rw [show a + t / 32 = a + B / 32 by omega, pk_us, b_or, b_shl (B % 32) (by omega) _ (by omega), show decide (B % 32 ≤ t % 32) = decide (B ≤ t) from decide_eq_decide.mpr (by omega), show t % 32 - B % 32 = t - B by omega]
          · have hf : (decide (B ≤ t) && bt v (t - B)) = false := by
              rcases Nat.lt_or_ge t B with x | x
              · rw [decide_eq_false (p := B ≤ t) (by omega), Bool.false_and]
              · rw [hv _ (by omega), Bool.and_false]
            rw [pk_un (by omega), hf, Bool.or_false]
      · rw [pk_un (by omega), pk_un (by omega)]
    · refine br_t (nI_le (a := B % 32 + w) (b := 32) z (by omega)) (h _ (fun t => ?_) (fun j hj => ?_))
      · unfold cs_bs
        by_cases y : t / 32 = B / 32
        · rw [show a + t / 32 = a + B / 32 by omega, pk_us, b_or, b_shl (B % 32) (by omega) _ (by omega), show decide (B % 32 ≤ t % 32) = decide (B ≤ t) from decide_eq_decide.mpr (by omega), show t % 32 - B % 32 = t - B by omega]
        · have hf : (decide (B ≤ t) && bt v (t - B)) = false := by
            rcases Nat.lt_or_ge t B with x | x
            · rw [decide_eq_false (p := B ≤ t) (by omega), Bool.false_and]
            · rw [hv _ (by omega), Bool.and_false]
          rw [pk_un (by omega), hf, Bool.or_false]
      · rw [pk_un (by omega)]
end
end
section
/-! addValue: the ascending row of different values -/
theorem cs_ltt {a b c : Int32} (h : a < b) (h2 : b < c) : a < c := by
  rw [Int32.lt_iff_toInt_lt] at *; omega
theorem cs_ltl {a b c : Int32} (h : a < b) (h2 : b ≤ c) : a < c := by
  rw [Int32.lt_iff_toInt_lt] at *; rw [Int32.le_iff_toInt_le] at h2; omega
theorem cs_llt {a b c : Int32} (h : a ≤ b) (h2 : b < c) : a < c := by
  rw [Int32.lt_iff_toInt_lt] at *; rw [Int32.le_iff_toInt_le] at h; omega
theorem cs_lle {a b : Int32} (h : a < b) : a ≤ b := by
  rw [Int32.lt_iff_toInt_lt] at h; rw [Int32.le_iff_toInt_le]; omega
theorem cs_nle {a b : Int32} (h : ¬ a ≤ b) : b < a := by
  rw [Int32.le_iff_toInt_le] at h; rw [Int32.lt_iff_toInt_lt]; omega
theorem cs_nlt {a b : Int32} (h : ¬ a < b) : b ≤ a := by
  rw [Int32.lt_iff_toInt_lt] at h; rw [Int32.le_iff_toInt_le]; omega
theorem cs_gnl {a b : Int32} (h : b < a) : ¬ a ≤ b := by
  rw [Int32.lt_iff_toInt_lt] at h; rw [Int32.le_iff_toInt_le]; omega
theorem cs_lnl {a b : Int32} (h : b ≤ a) : ¬ a < b := by
  rw [Int32.le_iff_toInt_le] at h; rw [Int32.lt_iff_toInt_lt]; omega
theorem cs_lne {a b : Int32} (h : a ≤ b) (hn : b ≠ a) : a < b := by
  rw [Int32.lt_iff_toInt_lt]
  rw [Int32.le_iff_toInt_le] at h
  have : b.toInt ≠ a.toInt := fun z => hn (Int32.toInt_inj.mp z)
  omega
theorem cs_irr {a b : Int32} (h : a < b) : a ≠ b := by
  intro z
  rw [z, Int32.lt_iff_toInt_lt] at h
  omega
def cs_So (va : Nat → Int32) (n : Nat) : Prop := ∀ i j, i < j → j < n → va i < va j
def cs_Me (va : Nat → Int32) (n : Nat) (v : Int32) : Prop := ∃ e, e < n ∧ va e = v
def cs_sf (va : Nat → Int32) (n k : Nat) : Nat → Int32 := fun j => if k < j ∧ j ≤ n then va (j - 1) else va j
theorem cs_sf_n (va : Nat → Int32) (n : Nat) : cs_sf va n n = va := by
  funext j
  exact if_neg (by omega)
theorem cs_sf_s (va : Nat → Int32) {n k : Nat} (h : k + 1 ≤ n) : upd (cs_sf va n (k + 1)) (k + 1) (cs_sf va n (k + 1) k) = cs_sf va n k := by
  funext j
  show (if j = k + 1 then (if k + 1 < k ∧ k ≤ n then va (k - 1) else va k) else if k + 1 < j ∧ j ≤ n then va (j - 1) else va j) = (if k < j ∧ j ≤ n then va (j - 1) else va j)
  rw [if_neg (c := k + 1 < k ∧ k ≤ n) (by omega)]
  split
  · rename_i e
    rw [if_pos (by omega), show j - 1 = k by omega]
  · split
    · rw [if_pos (by omega)]
    · rw [if_neg (by omega)]
section
variable {vr vc : Int32} {op lm fo lo hg sz wo rg rl rh va : Nat → Int32}
theorem xa_sh {post : SX → Prop} (v : Int32) (f n : Nat) (hn : n < 64) (h : post (vr, nI (n + 1), op, lm, fo, lo, hg, sz, wo, rg, rl, rh, upd (cs_sf va n f) f v)) : ∀ d, f + d ≤ n → wX_addValue_82 post v (nI f) vr (nI n) (d + 1) (nI (f + d)) op lm fo lo hg sz wo rg rl rh (cs_sf va n (f + d)) := by
  intro d
  induction d with
  | zero =>
    intro hd
    have ec : (nI f).toNatClampNeg = f := nI_clamp (by omega)
    refine br_t (nI_le (a := f + 0) (b := f) (by omega) (by omega)) ?_
    rw [ec]
    exact ⟨vp_in_nI (by omega) (by omega), nm_e (nm_r (nI_1 n) h)⟩
  | succ d ih =>
    intro hd
    have e1 : nI (f + (d + 1)) - 1 = nI (f + d) := nI_pred (f + d)
    refine br_f (nI_ge (a := f) (b := f + (d + 1)) (by omega) (by omega)) ?_
    rw [e1, nI_clamp (n := f + d) (by omega), nI_clamp (n := f + (d + 1)) (by omega)]
    exact ⟨vp_in_nI (by omega) (by omega), vp_in_nI (by omega) (by omega), nm_r (cs_sf_s va (k := f + d) (by omega)) (nm_r (pk_m1 (f + d)) (ih (by omega)))⟩
theorem xa_57 {post : SX → Prop} (v : Int32) (f n : Nat) (hn : n < 64) (hf : f ≤ n) (hp : f < n → va f = v → post (vr, nI n, op, lm, fo, lo, hg, sz, wo, rg, rl, rh, va)) (h : (f < n → va f ≠ v) → post (vr, nI (n + 1), op, lm, fo, lo, hg, sz, wo, rg, rl, rh, upd (cs_sf va n f) f v)) : wX_addValue_57 post v (nI f) vr (nI n) op lm fo lo hg sz wo rg rl rh va := by
  have k : (f < n → va f ≠ v) → wX_addValue_82 post v (nI f) vr (nI n) (n - f + 1) (nI n) op lm fo lo hg sz wo rg rl rh va := by
    intro z
    have q := xa_sh v f n hn (h z) (n - f) (by omega)
    rw [show f + (n - f) = n by omega, cs_sf_n] at q
    exact q
  unfold wX_addValue_57
  rcases Nat.lt_or_ge f n with z | z
  · refine br_f (nI_ge z (by omega)) ⟨vp_in_nI (by omega) (by omega), ?_⟩
    rw [nI_clamp (n := f) (by omega)]
    by_cases y : va f = v
    · exact br_t y (hp z y)
    · exact br_f y ⟨_, k (fun _ => y)⟩
  · exact br_t (nI_le z (by omega)) ⟨_, k (fun y => absurd y (by omega))⟩
theorem xa_bs {post : SX → Prop} (v : Int32) (n : Nat) (hn : n < 64) (hs : cs_So va n) (h : ∀ f, f ≤ n → (∀ e, e < f → va e < v) → (∀ e, f ≤ e → e < n → v ≤ va e) → wX_addValue_57 post v (nI f) vr (nI n) op lm fo lo hg sz wo rg rl rh va) :
    ∀ d f t st, st + d = 7 → f ≤ t → t ≤ n → t - f < 2 ^ d → (∀ e, e < f → va e < v) → (∀ e, t ≤ e → e < n → v ≤ va e) → wX_addValue_10 post v vr (nI n) op lm fo lo hg sz wo rg rl rh va (d + 1) (nI f) (nI t) (nI st) := by
  intro d
  induction d with
  | zero =>
    intro f t st h1 h2 h3 h4 h5 h6
    rw [Nat.pow_zero] at h4
    obtain rfl : t = f := by omega
    exact br_t (nI_le (a := 7) (b := st) (by omega) (by omega)) (h t h3 h5 h6)
  | succ d ih =>
    intro f t st h1 h2 h3 h4 h5 h6
    rw [Nat.pow_succ] at h4
    refine br_f (nI_ge (a := st) (b := 7) (by omega) (by decide)) ?_
    rcases Nat.lt_or_ge f t with z | z
    · refine br_f (nI_ge z (by omega)) ⟨by decide, nm_r (e' := nI ((f + t) / 2)) ?_ ⟨vp_in_nI (by omega) (by omega), ?_⟩⟩
      · rw [nI_add]
        exact pk_div (d := 2) (by omega) (by omega) (by omega)
      · rw [nI_clamp (n := (f + t) / 2) (by omega)]
        by_cases y : v ≤ va ((f + t) / 2)
        · refine br_t y (nm_r (nI_1 st) (ih f ((f + t) / 2) (st + 1) (by omega) (by omega) (by omega) (by omega) h5 ?_))
          intro e he hen
          rcases Nat.eq_or_lt_of_le he with q | q
          · rw [← q]; exact y
          · exact cs_lle (cs_llt y (hs _ e q hen))
        · refine br_f y (nm_r (nI_1 ((f + t) / 2)) (nm_r (nI_1 st) (ih ((f + t) / 2 + 1) t (st + 1) (by omega) (by omega) (by omega) (by omega) ?_ h6)))
          intro e he
          rcases Nat.eq_or_lt_of_le (Nat.le_of_lt_succ he) with q | q
          · rw [q]; exact cs_nle y
          · exact cs_ltt (hs e _ q (by omega)) (cs_nle y)
    · obtain rfl : t = f := by omega
      exact br_t (nI_le z (by omega)) (h t h3 h5 h6)
theorem x_addValue {post : SX → Prop} (v : Int32) (n : Nat) (hn : n < 64) (hs : cs_So va n) (h : ∀ m vn, cs_So vn m → (∀ x, cs_Me vn m x ↔ cs_Me va n x ∨ x = v) → (cs_Me va n v → m = n) → (¬ cs_Me va n v → m = n + 1) → post (vr, nI m, op, lm, fo, lo, hg, sz, wo, rg, rl, rh, vn)) : wpX_addValue post (vr, nI n, op, lm, fo, lo, hg, sz, wo, rg, rl, rh, va) v := by
  refine Exists.intro 8 (xa_bs v n hn hs ?_ 7 0 n 0 (by omega) (by omega) (by omega) (by omega) (fun e he => absurd he (by omega)) (fun e he hen => absurd hen (by omega)))
  intro f hf hlo hhi
  refine xa_57 v f n hn hf ?_ ?_
  · intro z y
    refine h n va hs (fun x => ⟨Or.inl, ?_⟩) (fun _ => rfl) (fun w => absurd ⟨f, z, y⟩ w)
    rintro (w | w)
    · exact w
    · exact ⟨f, z, by rw [w]; exact y⟩
  · intro hne
    have hgt : ∀ e, f ≤ e → e < n → v < va e := by
      intro e he hen
      have a := cs_lne (hhi f (by omega) (by omega)) (hne (by omega))
      rcases Nat.eq_or_lt_of_le he with q | q
      · rw [← q]; exact a
      · exact cs_ltt a (hs f e q hen)
    have hnm : ¬ cs_Me va n v := by
      rintro ⟨e, he, ev⟩
      rcases Nat.lt_or_ge e f with q | q
      · exact cs_irr (hlo e q) ev
      · exact cs_irr (hgt e q he) ev.symm
    have v1 : ∀ j, j < f → upd (cs_sf va n f) f v j = va j := by
      intro j hj
      rw [pk_un (by omega)]
      exact if_neg (by omega)
    have v2 : upd (cs_sf va n f) f v f = v := pk_us
    have v3 : ∀ j, f ≤ j → j < n → upd (cs_sf va n f) f v (j + 1) = va j := by
      intro j hj hjn
      rw [pk_un (by omega)]
      show (if f < j + 1 ∧ j + 1 ≤ n then va (j + 1 - 1) else va (j + 1)) = va j
      rw [if_pos (by omega)]
      rfl
    refine h (n + 1) (upd (cs_sf va n f) f v) ?_ ?_ (fun w => absurd w hnm) (fun _ => rfl)
    · intro i j hij hj
      rcases Nat.lt_trichotomy j f with q | q | q
      · rw [v1 i (by omega), v1 j q]; exact hs i j hij (by omega)
      · subst q; rw [v2, v1 i hij]; exact hlo i hij
      · obtain ⟨b, rfl⟩ : ∃ b, j = b + 1 := ⟨j - 1, by omega⟩
        rw [v3 b (by omega) (by omega)]
        rcases Nat.lt_trichotomy i f with p | p | p
        · rw [v1 i p]; exact hs i b (by omega) (by omega)
        · subst p; rw [v2]; exact hgt b (by omega) (by omega)
        · obtain ⟨a, rfl⟩ : ∃ a, i = a + 1 := ⟨i - 1, by omega⟩
          rw [v3 a (by omega) (by omega)]; exact hs a b (by omega) (by omega)
    · intro x
      constructor
      · rintro ⟨e, he, ev⟩
        rcases Nat.lt_trichotomy e f with q | q | q
        · rw [v1 e q] at ev; exact Or.inl ⟨e, by omega, ev⟩
        · rw [q, v2] at ev; exact Or.inr ev.symm
        · obtain ⟨b, rfl⟩ : ∃ b, e = b + 1 := ⟨e - 1, by omega⟩
          rw [v3 b (by omega) (by omega)] at ev; exact Or.inl ⟨b, by omega, ev⟩
      · rintro (⟨e, he, ev⟩ | w)
        · rcases Nat.lt_or_ge e f with q | q
          · exact ⟨e, by omega, by rw [v1 e q]; exact ev⟩
          · exact ⟨e + 1, by omega, by rw [v3 e q he]; exact ev⟩
        · exact ⟨f, by omega, by rw [v2]; exact w.symm⟩
end
end
section
/-! the four bodies of a closed column, and what the four writers leave -/
def cs_BodyP (wo : Nat → Int32) (q : Nat) (f : Nat → Int32) : Prop := ∀ p, p < 16 → wo (34 * q + p) = f p
def cs_BodyK (l s : Int32) (wo : Nat → Int32) (q : Nat) (f : Nat → Int32) : Prop := ∃ w, w < 32 ∧ s = nI w ∧ ∀ p, p < 16 → ∀ j, j < 32 → bt (f p - l) j = (decide (j < w) && cs_bs wo (34 * q) (w * p + j))
def cs_BodyD (s : Int32) (wo : Nat → Int32) (q : Nat) (f : Nat → Int32) : Prop := ∃ n, 1 ≤ n ∧ n ≤ 16 ∧ s = nI n ∧ cs_So (fun e => wo (34 * q + e)) n ∧ ∀ p, p < 16 → ∃ i, i < n ∧ wo (34 * q + i) = f p ∧ ∀ j, j < 32 → bt (nI i) j = (decide (j < cs_bF (nI (n - 1)) 32) && cs_bs wo (34 * q + n) (cs_bF (nI (n - 1)) 32 * p + j))
def cs_BodyR (s : Int32) (wo : Nat → Int32) (q : Nat) (f : Nat → Int32) : Prop := ∃ (n : Nat) (ro : Nat → Nat), n ≤ 16 ∧ s = nI n ∧ (∀ p, p < 16 → ro p < n ∧ wo (34 * q + 2 * ro p) = f p) ∧ ∀ m, m < n → ∀ p, p < 16 → bt (wo (34 * q + 2 * m + 1)) p = decide (ro p = m)
def cs_Body (fo lo sz wo : Nat → Int32) (q : Nat) (f : Nat → Int32) : Prop := (fo q = 0 ∧ cs_BodyP wo q f) ∨ (fo q = 3 ∧ cs_BodyK (lo q) (sz q) wo q f) ∨ (fo q = 2 ∧ cs_BodyD (sz q) wo q f) ∨ (fo q = 1 ∧ cs_BodyR (sz q) wo q f)
def cs_Out (wo wn : Nat → Int32) (q : Nat) : Prop := ∀ j, (j < 34 * q ∨ 34 * q + 34 ≤ j) → wn j = wo j
theorem cs_34 (q : Nat) : (34 : Int32) * nI q = nI (34 * q) := pk_mul 34 q
theorem cs_2m (q : Nat) : (2 : Int32) * nI q = nI (2 * q) := pk_mul 2 q
/-! pure: sixteen puts -/
theorem cs_put_s {wn wm : Nat → Int32} {a w i : Nat} {g : Nat → Int32} (hA : ∀ t, cs_bs wm a t = (cs_bs wn a t || (decide (w * i ≤ t) && bt (g i) (t - w * i)))) (hv : ∀ j, w ≤ j → bt (g i) j = false)
    (h : ∀ p, p < 16 → ∀ j, j < w → cs_bs wn a (w * p + j) = (decide (p < i) && bt (g p) j)) : ∀ p, p < 16 → ∀ j, j < w → cs_bs wm a (w * p + j) = (decide (p < i + 1) && bt (g p) j) := by
  intro p hp j hj
  rw [hA, h p hp j hj]
  rcases Nat.lt_trichotomy p i with z | z | z
  · have m := Nat.mul_le_mul_left w (show p + 1 ≤ i by omega)
    rw [Nat.mul_add] at m
    rw [decide_eq_true (p := p < i) z, decide_eq_true (p := p < i + 1) (by omega), decide_eq_false (p := w * i ≤ w * p + j) (by omega)]
    simp
  · subst z
    rw [decide_eq_false (p := p < p) (by omega), decide_eq_true (p := p < p + 1) (by omega), decide_eq_true (p := w * p ≤ w * p + j) (by omega), Nat.add_sub_cancel_left]
    simp
  · have m := Nat.mul_le_mul_left w (show i + 1 ≤ p by omega)
    rw [Nat.mul_add] at m
    rw [decide_eq_false (p := p < i) (by omega), decide_eq_false (p := p < i + 1) (by omega), hv _ (by omega)]
    simp
theorem cs_put_e {wn : Nat → Int32} {a w : Nat} {g : Nat → Int32} (hv : ∀ p, p < 16 → ∀ j, w ≤ j → bt (g p) j = false) (h : ∀ p, p < 16 → ∀ j, j < w → cs_bs wn a (w * p + j) = (decide (p < 16) && bt (g p) j)) :
    ∀ p, p < 16 → ∀ j, j < 32 → bt (g p) j = (decide (j < w) && cs_bs wn a (w * p + j)) := by
  intro p hp j _
  rcases Nat.lt_or_ge j w with z | z
  · rw [h p hp j z, decide_eq_true (p := j < w) z, decide_eq_true (p := p < 16) hp]
    simp
  · rw [hv p hp j z, decide_eq_false (p := j < w) (by omega)]
    rfl
theorem cs_put_0 (wo : Nat → Int32) (a w : Nat) (g : Nat → Int32) : ∀ p, p < 16 → ∀ j, j < w → cs_bs (cs_fl wo (fun _ => 0) a ((w + 1) / 2)) a (w * p + j) = (decide (p < 0) && bt (g p) j) := by
  intro p hp j hj
  have m := Nat.mul_le_mul_left w (show p + 1 ≤ 16 by omega)
  rw [Nat.mul_add] at m
  unfold cs_bs
  rw [cs_fl_in (by omega), b_0, decide_eq_false (p := p < 0) (by omega)]
  rfl
section
variable {vr vc : Int32} {op lm fo lo hg sz wo rg rl rh va : Nat → Int32}
/-! writePlain -/
theorem x_plain_l {post : SX → Prop} (q fr : Nat) (hq : q < 12) (hf : fr + 16 ≤ 48) (h : post (vr, vc, op, lm, fo, lo, hg, sz, cs_fl wo (fun p => op (fr + p)) (34 * q) 16, rg, rl, rh, va)) : ∀ d i, i + d = 16 → wX_writePlain_9 post (nI q) (nI fr) vr vc (d + 1) (nI i) op lm fo lo hg sz (cs_fl wo (fun p => op (fr + p)) (34 * q) i) rg rl rh va := by
  intro d
  induction d with
  | zero =>
    intro i hj
    obtain rfl : i = 16 := by omega
    exact br_t (nI_le (a := 16) (b := 16) (by omega) (by decide)) h
  | succ d ih =>
    intro i hj
    refine br_f (nI_ge (a := i) (b := 16) (by omega) (by decide)) ?_
    rw [cs_34, nI_add (34 * q) i, nI_add fr i, nI_clamp (n := fr + i) (by omega), nI_clamp (n := 34 * q + i) (by omega)]
    exact ⟨vp_in_nI (by omega) (by omega), vp_in_nI (by omega) (by omega), nm_r (cs_fl_s wo (fun p => op (fr + p)) (34 * q) i) (nm_r (nI_1 i) (ih (i + 1) (by omega)))⟩
theorem x_plain {post : SX → Prop} (q fr : Nat) (hq : q < 12) (hf : fr + 16 ≤ 48) (h : ∀ wn, cs_BodyP wn q (fun p => op (fr + p)) → cs_Out wo wn q → post (vr, vc, op, lm, upd fo q 0, lo, hg, sz, wn, rg, rl, rh, va)) : wpX_writePlain post (vr, vc, op, lm, fo, lo, hg, sz, wo, rg, rl, rh, va) (nI q) (nI fr) := by
  have ec : (nI q).toNatClampNeg = q := nI_clamp (by omega)
  have k := x_plain_l (wo := wo) q fr hq hf (h _ (fun p hp => cs_fl_in hp) (fun j hj => cs_fl_out (by omega))) 16 0 (by omega)
  rw [cs_fl_0] at k
  refine And.intro (vp_in_nI hq (by omega)) (nm_r (e' := upd fo q 0) ?_ (Exists.intro _ k))
  rw [ec]
/-! writePacked -/
theorem x_packed_l {post : SX → Prop} (q fr w : Nat) (hq : q < 12) (hf : fr + 16 ≤ 48) (hw : w < 32) (hv : ∀ p, p < 16 → ∀ j, w ≤ j → bt (op (fr + p) - lo q) j = false)
    (h : ∀ wn, (∀ p, p < 16 → ∀ j, j < w → cs_bs wn (34 * q) (w * p + j) = (decide (p < 16) && bt (op (fr + p) - lo q) j)) → cs_Out wo wn q → post (vr, vc, op, lm, fo, lo, hg, sz, wn, rg, rl, rh, va)) :
    ∀ d i wn, i + d = 16 → (∀ p, p < 16 → ∀ j, j < w → cs_bs wn (34 * q) (w * p + j) = (decide (p < i) && bt (op (fr + p) - lo q) j)) → cs_Out wo wn q → wX_writePacked_26 post (nI q) (nI fr) (nI w) (d + 1) (nI i) vr vc op lm fo lo hg sz wn rg rl rh va := by
  intro d
  induction d with
  | zero =>
    intro i wn hj h1 h2
    obtain rfl : i = 16 := by omega
    exact br_t (nI_le (a := 16) (b := 16) (by omega) (by decide)) (h wn h1 h2)
  | succ d ih =>
    intro i wn hj h1 h2
    refine br_f (nI_ge (a := i) (b := 16) (by omega) (by decide)) ?_
    rw [cs_34, nI_add fr i, nI_clamp (n := fr + i) (by omega), nI_clamp (n := q) (by omega)]
    refine ⟨vp_in_nI (by omega) (by omega), vp_in_nI (by omega) (by omega), ?_⟩
    refine x_putBits (34 * q) w i (w * i) _ rfl hw (by omega) (by omega) (hv i (by omega)) ?_
    intro wm hA hO
    refine nm_r (nI_1 i) (ih (i + 1) wm (by omega) ?_ ?_)
    · exact cs_put_s (g := fun p => op (fr + p) - lo q) hA (hv i (by omega)) h1
    · intro j hj
      rw [hO j (by omega), h2 j hj]
theorem x_packed {post : SX → Prop} (q fr w : Nat) (hq : q < 12) (hf : fr + 16 ≤ 48) (hw : w < 32) (hv : ∀ p, p < 16 → ∀ j, w ≤ j → bt (op (fr + p) - lo q) j = false)
    (h : ∀ wn, cs_BodyK (lo q) (nI w) wn q (fun p => op (fr + p)) → cs_Out wo wn q → post (vr, vc, op, lm, upd fo q 3, lo, hg, upd sz q (nI w), wn, rg, rl, rh, va)) : wpX_writePacked post (vr, vc, op, lm, fo, lo, hg, sz, wo, rg, rl, rh, va) (nI q) (nI fr) (nI w) := by
  have ec : (nI q).toNatClampNeg = q := nI_clamp (by omega)
  refine And.intro (vp_in_nI hq (by omega)) (nm_r (e' := upd fo q 3) (by rw [ec]) (And.intro (vp_in_nI hq (by omega)) (nm_r (e' := upd sz q (nI w)) (by rw [ec]) ?_)))
  rw [cs_34]
  refine x_clear (34 * q) w hw (by omega) (Exists.intro 17 (x_packed_l (wo := wo) q fr w hq hf hw hv ?_ 16 0 _ (by omega) (cs_put_0 wo (34 * q) w (fun p => op (fr + p) - lo q)) ?_))
  · intro wn h1 h2
    exact h wn ⟨w, hw, rfl, cs_put_e (g := fun p => op (fr + p) - lo q) hv h1⟩ h2
  · intro j hj
    exact cs_fl_out (by omega)
/-! writeDictionary -/
theorem x_dict_84 {post : SX → Prop} {J : Int32 → Int32 → Int32 → (Nat → Int32) → (Nat → Int32) → (Nat → Int32) → (Nat → Int32) → (Nat → Int32) → (Nat → Int32) → (Nat → Int32) → (Nat → Int32) → (Nat → Int32) → (Nat → Int32) → (Nat → Int32) → Prop} (q fr ib n i ix : Nat) (hq : q < 12) (hf : fr + 16 ≤ 48) (hib : ib < 32) (hn : n ≤ 16) (hi : i < 16) (hx : ix < n) (he : va ix = op (fr + i)) (hs : cs_So va n) (hv : ∀ j, ib ≤ j → bt (nI ix) j = false)
    (h : ∀ wn : Nat → Int32, (∀ t, cs_bs wn (34 * q + n) t = (cs_bs wo (34 * q + n) t || (decide (ib * i ≤ t) && bt (nI ix) (t - ib * i)))) → (∀ j, (j < 34 * q + n ∨ 34 * q + n + (ib + 1) / 2 ≤ j) → wn j = wo j) → J (nI (i + 1)) vr (nI n) op lm fo lo hg sz wn rg rl rh va) :
    ∀ d e y, e + d = n → y = (if ix < e then ix else 0) → wX_writeDictionary_84 post J (nI q) (nI fr) (nI ib) (nI i) vr (nI n) op lm fo lo hg sz wo rg rl rh va (d + 1) (nI y) (nI e) := by
  intro d
  induction d with
  | zero =>
    intro e y hd hy
    rw [if_pos (by omega)] at hy
    subst hy
    refine br_t (nI_le (a := n) (b := e) (by omega) (by omega)) ?_
    rw [cs_34, nI_add (34 * q) n]
    refine x_putBits (34 * q + n) ib i (ib * i) _ rfl hib hi (by omega) hv ?_
    intro wn h1 h2
    exact nm_r (nI_1 i) (h wn h1 h2)
  | succ d ih =>
    intro e y hd hy
    refine br_f (nI_ge (a := e) (b := n) (by omega) (by omega)) ?_
    rw [nI_add fr i, nI_clamp (n := fr + i) (by omega), nI_clamp (n := e) (by omega)]
    refine ⟨vp_in_nI (by omega) (by omega), vp_in_nI (by omega) (by omega), ?_⟩
    by_cases z : va e = op (fr + i)
    · have ee : e = ix := by
        rcases Nat.lt_trichotomy e ix with y1 | y1 | y1
        · exact absurd (z.trans he.symm) (cs_irr (hs _ _ y1 hx))
        · exact y1
        · exact absurd (he.trans z.symm) (cs_irr (hs _ _ y1 (by omega)))
      refine br_t z (nm_r (nI_1 e) (ih (e + 1) e (by omega) ?_))
      rw [if_pos (by omega), ee]
    · have ne : ix ≠ e := fun q => z (q ▸ he)
      refine br_f z (nm_r (nI_1 e) (ih (e + 1) y (by omega) ?_))
      rw [hy]
      rcases Nat.lt_or_ge ix e with y1 | y1
      · rw [if_pos y1, if_pos (by omega)]
      · rw [if_neg (by omega), if_neg (by omega)]
theorem x_dict_71 {post : SX → Prop} (q fr ib n : Nat) (ix : Nat → Nat) (hq : q < 12) (hf : fr + 16 ≤ 48) (hib : ib ≤ 4) (hn : n ≤ 16) (hx : ∀ p, p < 16 → ix p < n ∧ va (ix p) = op (fr + p)) (hs : cs_So va n) (hv : ∀ p, p < 16 → ∀ j, ib ≤ j → bt (nI (ix p)) j = false)
    (h : ∀ wn, (∀ p, p < 16 → ∀ j, j < ib → cs_bs wn (34 * q + n) (ib * p + j) = (decide (p < 16) && bt (nI (ix p)) j)) → (∀ j, (j < 34 * q + n ∨ 34 * q + n + (ib + 1) / 2 ≤ j) → wn j = wo j) → post (vr, nI n, op, lm, fo, lo, hg, sz, wn, rg, rl, rh, va)) :
    ∀ d i wn, i + d = 16 → (∀ p, p < 16 → ∀ j, j < ib → cs_bs wn (34 * q + n) (ib * p + j) = (decide (p < i) && bt (nI (ix p)) j)) → (∀ j, (j < 34 * q + n ∨ 34 * q + n + (ib + 1) / 2 ≤ j) → wn j = wo j) → wX_writeDictionary_71 post (nI q) (nI fr) (nI ib) (d + 1) (nI i) vr (nI n) op lm fo lo hg sz wn rg rl rh va := by
  intro d
  induction d with
  | zero =>
    intro i wn hj h1 h2
    obtain rfl : i = 16 := by omega
    exact br_t (nI_le (a := 16) (b := 16) (by omega) (by decide)) (h wn h1 h2)
  | succ d ih =>
    intro i wn hj h1 h2
    refine br_f (nI_ge (a := i) (b := 16) (by omega) (by decide)) (Exists.intro (n + 1) ?_)
    refine x_dict_84 q fr ib n i (ix i) hq hf (by omega) hn (by omega) (hx i (by omega)).1 (hx i (by omega)).2 hs (hv i (by omega)) ?_ n 0 0 (by omega) (by rw [if_neg (by omega)])
    intro wm hA hO
    refine ih (i + 1) wm (by omega) ?_ ?_
    · exact cs_put_s (g := fun p => nI (ix p)) hA (hv i (by omega)) h1
    · intro j hj
      rw [hO j hj, h2 j hj]
theorem x_dict_20 {post : SX → Prop} (q fr ib n : Nat) (hq : q < 12) (hib : ib ≤ 4) (hn : n ≤ 16)
    (h : ∃ m, wX_writeDictionary_71 post (nI q) (nI fr) (nI ib) m 0 vr (nI n) op lm fo lo hg sz (cs_fl (cs_fl wo va (34 * q) n) (fun _ => 0) (34 * q + n) ((ib + 1) / 2)) rg rl rh va) :
    ∀ d i, i + d = n → wX_writeDictionary_20 post (nI q) (nI fr) (nI ib) vr (nI n) (d + 1) (nI i) op lm fo lo hg sz (cs_fl wo va (34 * q) i) rg rl rh va := by
  intro d
  induction d with
  | zero =>
    intro i hj
    obtain rfl : i = n := by omega
    refine br_t (nI_le (a := i) (b := i) (by omega) (by omega)) ?_
    rw [cs_34, nI_add (34 * q) i]
    exact x_clear (34 * q + i) ib (by omega) (by omega) h
  | succ d ih =>
    intro i hj
    refine br_f (nI_ge (a := i) (b := n) (by omega) (by omega)) ?_
    rw [cs_34, nI_add (34 * q) i, nI_clamp (n := i) (by omega), nI_clamp (n := 34 * q + i) (by omega)]
    exact ⟨vp_in_nI (by omega) (by omega), vp_in_nI (by omega) (by omega), nm_r (cs_fl_s wo va (34 * q) i) (nm_r (nI_1 i) (ih (i + 1) (by omega)))⟩
theorem x_dict {post : SX → Prop} (q fr n : Nat) (hq : q < 12) (hf : fr + 16 ≤ 48) (hn1 : 1 ≤ n) (hn : n ≤ 16) (hs : cs_So va n) (hm : ∀ p, p < 16 → cs_Me va n (op (fr + p)))
    (h : ∀ wn, cs_BodyD (nI n) wn q (fun p => op (fr + p)) → cs_Out wo wn q → post (vr, nI n, op, lm, upd fo q 2, lo, hg, upd sz q (nI n), wn, rg, rl, rh, va)) : wpX_writeDictionary post (vr, nI n, op, lm, fo, lo, hg, sz, wo, rg, rl, rh, va) (nI q) (nI fr) (nI (cs_bF (nI (n - 1)) 32)) := by
  have ec : (nI q).toNatClampNeg = q := nI_clamp (by omega)
  have hib : cs_bF (nI (n - 1)) 32 ≤ 4 := cs_bF16 _ (by omega)
  have hc : ∀ p, ∃ e, p < 16 → e < n ∧ va e = op (fr + p) := by
    intro p
    by_cases hp : p < 16
    · obtain ⟨e, h1, h2⟩ := hm p hp
      exact ⟨e, fun _ => ⟨h1, h2⟩⟩
    · exact ⟨0, fun z => absurd z hp⟩
  obtain ⟨ix, hx⟩ := Classical.axiomOfChoice hc
  have hv : ∀ p, p < 16 → ∀ j, cs_bF (nI (n - 1)) 32 ≤ j → bt (nI (ix p)) j = false := fun p hp j hj => cs_ixB hn (hx p hp).1 hj
  refine And.intro (vp_in_nI hq (by omega)) (nm_r (e' := upd fo q 2) (by rw [ec]) (And.intro (vp_in_nI hq (by omega)) (nm_r (e' := upd sz q (nI n)) (by rw [ec]) (Exists.intro (n + 1) ?_))))
  have k : ∃ m, wX_writeDictionary_71 post (nI q) (nI fr) (nI (cs_bF (nI (n - 1)) 32)) m 0 vr (nI n) op lm (upd fo q 2) lo hg (upd sz q (nI n)) (cs_fl (cs_fl wo va (34 * q) n) (fun _ => 0) (34 * q + n) ((cs_bF (nI (n - 1)) 32 + 1) / 2)) rg rl rh va := by
    refine ⟨17, x_dict_71 (wo := cs_fl wo va (34 * q) n) q fr _ n ix hq hf hib hn hx hs hv ?_ 16 0 _ (by omega) (cs_put_0 _ (34 * q + n) _ (fun p => nI (ix p))) (fun j hj => cs_fl_out hj)⟩
    intro wn h1 h2
    have hw : ∀ e, e < n → wn (34 * q + e) = va e := by
      intro e he
      rw [h2 _ (by omega)]
      exact cs_fl_in he
    refine h wn ⟨n, hn1, hn, rfl, ?_, ?_⟩ ?_
    · intro i j hij hj
      show wn (34 * q + i) < wn (34 * q + j)
      rw [hw i (by omega), hw j hj]
      exact hs i j hij hj
    · intro p hp
      refine ⟨ix p, (hx p hp).1, ?_, cs_put_e (g := fun p => nI (ix p)) hv h1 p hp⟩
      rw [hw _ (hx p hp).1]
      exact (hx p hp).2
    · intro j hj
      rw [h2 j (by omega)]
      exact cs_fl_out (by omega)
  have k2 := x_dict_20 (wo := wo) q fr _ n hq hib hn k n 0 (by omega)
  rw [cs_fl_0] at k2
  exact k2
end
end
section
/-! writeRuns -/
def cs_rn (f : Nat → Int32) : Nat → Nat
  | 0 => 0
  | k + 1 => if k ≠ 0 ∧ f k = f (k - 1) then cs_rn f k else cs_rn f k + 1
theorem cs_rn_s {f : Nat → Int32} {k : Nat} (h0 : k ≠ 0) (h : f k = f (k - 1)) : cs_rn f (k + 1) = cs_rn f k := if_pos ⟨h0, h⟩
theorem cs_rn_n {f : Nat → Int32} {k : Nat} (h : k = 0 ∨ f k ≠ f (k - 1)) : cs_rn f (k + 1) = cs_rn f k + 1 := by
  refine if_neg ?_
  rintro ⟨a, b⟩
  rcases h with z | z
  · exact a z
  · exact z b
theorem cs_rn_1 (f : Nat → Int32) (k : Nat) : cs_rn f k ≤ cs_rn f (k + 1) ∧ cs_rn f (k + 1) ≤ cs_rn f k + 1 := by
  show cs_rn f k ≤ (if k ≠ 0 ∧ f k = f (k - 1) then cs_rn f k else cs_rn f k + 1) ∧ (if k ≠ 0 ∧ f k = f (k - 1) then cs_rn f k else cs_rn f k + 1) ≤ cs_rn f k + 1
  split <;> omega
theorem cs_rn_le (f : Nat → Int32) : ∀ k, cs_rn f k ≤ k := by
  intro k
  induction k with
  | zero => exact Nat.le_refl 0
  | succ k ih => have := cs_rn_1 f k; omega
theorem cs_rn_m (f : Nat → Int32) (a : Nat) : ∀ d, cs_rn f a ≤ cs_rn f (a + d) := by
  intro d
  induction d with
  | zero => exact Nat.le_refl _
  | succ d ih =>
    have := cs_rn_1 f (a + d)
    show cs_rn f a ≤ cs_rn f (a + d + 1)
    omega
theorem cs_rn_mn (f : Nat → Int32) {a b : Nat} (h : a ≤ b) : cs_rn f a ≤ cs_rn f b := by
  obtain ⟨d, rfl⟩ : ∃ d, b = a + d := ⟨b - a, by omega⟩
  exact cs_rn_m f a d
theorem cs_rn_p (f : Nat → Int32) (k : Nat) : 1 ≤ cs_rn f (k + 1) := by
  have h : cs_rn f 1 = 1 := cs_rn_n (Or.inl rfl)
  have := cs_rn_mn f (a := 1) (b := k + 1) (by omega)
  omega
def cs_RI (f w : Nat → Int32) (b k : Nat) : Prop := (∀ p, p < k → w (b + 2 * (cs_rn f (p + 1) - 1)) = f p) ∧ ∀ m, m < cs_rn f k → ∀ p, p < 16 → bt (w (b + 2 * m + 1)) p = decide (p < k ∧ cs_rn f (p + 1) = m + 1)
theorem cs_RI_s {f w : Nat → Int32} {b k : Nat} (hk : k < 16) (h0 : k ≠ 0) (he : f k = f (k - 1)) (h : cs_RI f w b k) : cs_RI f (upd w (b + 2 * cs_rn f k - 1) (w (b + 2 * cs_rn f k - 1) ||| ((1 : Int32) <<< (nI k &&& 31)))) b (k + 1) := by
  have es := cs_rn_s h0 he
  obtain ⟨k', rfl⟩ : ∃ k', k = k' + 1 := ⟨k - 1, by omega⟩
  have hp := cs_rn_p f k'
  refine ⟨?_, ?_⟩
  · intro p hpk
    have h1 := cs_rn_p f p
    rw [pk_un (by omega)]
    rcases Nat.lt_or_ge p (k' + 1) with z | z
    · exact h.1 p z
    · obtain rfl : p = k' + 1 := by omega
      rw [es, he]
      exact h.1 k' (by omega)
  · intro m hm p hp16
    rw [es] at hm
    by_cases z : m + 1 = cs_rn f (k' + 1)
    · rw [show b + 2 * m + 1 = b + 2 * cs_rn f (k' + 1) - 1 by omega, pk_us, b_or, cs_sh1 _ (by omega) (by omega), show b + 2 * cs_rn f (k' + 1) - 1 = b + 2 * m + 1 by omega, h.2 m hm p hp16, Bool.eq_iff_iff]
      simp only [Bool.or_eq_true, decide_eq_true_eq]
      constructor
      · rintro (⟨a, c⟩ | a)
        · exact ⟨by omega, c⟩
        · rw [a]; exact ⟨by omega, by omega⟩
      · rintro ⟨a, c⟩
        rcases Nat.lt_or_ge p (k' + 1) with y | y
        · exact Or.inl ⟨y, c⟩
        · exact Or.inr (by omega)
    · rw [pk_un (by omega), h.2 m hm p hp16, decide_eq_decide]
      constructor
      · rintro ⟨a, c⟩
        exact ⟨by omega, c⟩
      · rintro ⟨a, c⟩
        rcases Nat.lt_or_ge p (k' + 1) with y | y
        · exact ⟨y, c⟩
        · obtain rfl : p = k' + 1 := by omega
          omega
theorem cs_RI_n {f w : Nat → Int32} {b k : Nat} (hk : k < 16) (hn : k = 0 ∨ f k ≠ f (k - 1)) (h : cs_RI f w b k) :
    cs_RI f (upd (upd (upd w (b + 2 * cs_rn f k) (f k)) (b + 2 * cs_rn f k + 1) 0) (b + 2 * (cs_rn f k + 1) - 1) ((upd (upd w (b + 2 * cs_rn f k) (f k)) (b + 2 * cs_rn f k + 1) 0) (b + 2 * (cs_rn f k + 1) - 1) ||| ((1 : Int32) <<< (nI k &&& 31)))) b (k + 1) := by
  have es := cs_rn_n hn
  rw [show b + 2 * (cs_rn f k + 1) - 1 = b + 2 * cs_rn f k + 1 by omega]
  refine ⟨?_, ?_⟩
  · intro p hpk
    have h1 := cs_rn_p f p
    rw [pk_un (by omega), pk_un (by omega)]
    rcases Nat.lt_or_ge p k with z | z
    · have h2 := cs_rn_mn f (a := p + 1) (b := k) (by omega)
      rw [pk_un (by omega)]
      exact h.1 p z
    · obtain rfl : p = k := by omega
      rw [es, Nat.add_sub_cancel, pk_us]
  · intro m hm p hp16
    rw [es] at hm
    by_cases z : m = cs_rn f k
    · rw [z, pk_us, pk_us, b_or, b_0, cs_sh1 _ (by omega) (by omega), Bool.false_or, decide_eq_decide]
      constructor
      · intro a
        rw [a]; exact ⟨by omega, es⟩
      · rintro ⟨a, c⟩
        rcases Nat.lt_or_ge p k with y | y
        · have h2 := cs_rn_mn f (a := p + 1) (b := k) (by omega)
          omega
        · omega
    · rw [pk_un (by omega), pk_un (by omega), pk_un (by omega), h.2 m (by omega) p hp16, decide_eq_decide]
      constructor
      · rintro ⟨a, c⟩
        exact ⟨by omega, c⟩
      · rintro ⟨a, c⟩
        rcases Nat.lt_or_ge p k with y | y
        · exact ⟨y, c⟩
        · obtain rfl : p = k := by omega
          omega
section
variable {vr vc : Int32} {op lm fo lo hg sz wo rg rl rh va : Nat → Int32}
theorem xr_88 {post : SX → Prop} {J : Int32 → Int32 → (Nat → Int32) → (Nat → Int32) → (Nat → Int32) → (Nat → Int32) → (Nat → Int32) → (Nat → Int32) → (Nat → Int32) → (Nat → Int32) → (Nat → Int32) → (Nat → Int32) → (Nat → Int32) → Prop} (q fr n k : Nat) (hq : q < 12) (hn1 : 1 ≤ n) (hn : n ≤ 16)
    (h : J (nI n) (nI (k + 1)) op lm fo lo hg sz (upd wo (34 * q + 2 * n - 1) (wo (34 * q + 2 * n - 1) ||| ((1 : Int32) <<< (nI k &&& 31)))) rg rl rh va) :
    wX_writeRuns_88 post J (nI q) (nI fr) (nI n) (nI k) vr vc op lm fo lo hg sz wo rg rl rh va := by
  have e : nI (34 * q + 2 * n) - 1 = nI (34 * q + 2 * n - 1) := pk_sub (b := 1) (by omega)
  unfold wX_writeRuns_88
  rw [cs_34, cs_2m, nI_add (34 * q) (2 * n), e, nI_clamp (n := 34 * q + 2 * n - 1) (by omega)]
  exact ⟨vp_in_nI (by omega) (by omega), vp_in_nI (by omega) (by omega), nm_e (nm_r (nI_1 k) h)⟩
theorem xr_47 {post : SX → Prop} {J : Int32 → Int32 → (Nat → Int32) → (Nat → Int32) → (Nat → Int32) → (Nat → Int32) → (Nat → Int32) → (Nat → Int32) → (Nat → Int32) → (Nat → Int32) → (Nat → Int32) → (Nat → Int32) → (Nat → Int32) → Prop} (q fr n k : Nat) (hq : q < 12) (hf : fr + 16 ≤ 48) (hk : k < 16) (hn : n < 16)
    (h : J (nI (n + 1)) (nI (k + 1)) op lm fo lo hg sz (upd (upd (upd wo (34 * q + 2 * n) (op (fr + k))) (34 * q + 2 * n + 1) 0) (34 * q + 2 * (n + 1) - 1) ((upd (upd wo (34 * q + 2 * n) (op (fr + k))) (34 * q + 2 * n + 1) 0) (34 * q + 2 * (n + 1) - 1) ||| ((1 : Int32) <<< (nI k &&& 31)))) rg rl rh va) :
    wX_writeRuns_47 post J (nI q) (nI fr) (nI n) (nI k) vr vc op lm fo lo hg sz wo rg rl rh va := by
  unfold wX_writeRuns_47
  rw [cs_34, cs_2m, nI_add (34 * q) (2 * n), nI_add fr k, nI_1 (34 * q + 2 * n), nI_clamp (n := fr + k) (by omega), nI_clamp (n := 34 * q + 2 * n) (by omega), nI_clamp (n := 34 * q + 2 * n + 1) (by omega)]
  exact ⟨vp_in_nI (by omega) (by omega), vp_in_nI (by omega) (by omega), nm_e ⟨vp_in_nI (by omega) (by omega), nm_e (nm_r (nI_1 n) (xr_88 q fr (n + 1) k hq (by omega) (by omega) h))⟩⟩
theorem xr_12 {post : SX → Prop} (q fr : Nat) (hq : q < 12) (hf : fr + 16 ≤ 48) (h : ∀ wn, cs_RI (fun p => op (fr + p)) wn (34 * q) 16 → cs_Out wo wn q → post (vr, vc, op, lm, fo, lo, hg, upd sz q (nI (cs_rn (fun p => op (fr + p)) 16)), wn, rg, rl, rh, va)) :
    ∀ d k wn, k + d = 16 → cs_RI (fun p => op (fr + p)) wn (34 * q) k → cs_Out wo wn q → wX_writeRuns_12 post (nI q) (nI fr) vr vc (d + 1) (nI (cs_rn (fun p => op (fr + p)) k)) (nI k) op lm fo lo hg sz wn rg rl rh va := by
  intro d
  induction d with
  | zero =>
    intro k wn hd h1 h2
    obtain rfl : k = 16 := by omega
    refine br_t (nI_le (a := 16) (b := 16) (by omega) (by decide)) (And.intro (vp_in_nI hq (by omega)) (nm_r (e' := upd sz q (nI (cs_rn (fun p => op (fr + p)) 16))) ?_ (h wn h1 h2)))
    rw [nI_clamp (n := q) (by omega)]
  | succ d ih =>
    intro k wn hd h1 h2
    have hle := cs_rn_le (fun p => op (fr + p)) k
    have hnew : (k = 0 ∨ op (fr + k) ≠ op (fr + (k - 1))) → wX_writeRuns_47 post (wX_writeRuns_12 post (nI q) (nI fr) vr vc (d + 1)) (nI q) (nI fr) (nI (cs_rn (fun p => op (fr + p)) k)) (nI k) vr vc op lm fo lo hg sz wn rg rl rh va := by
      intro hn
      have es : cs_rn (fun p => op (fr + p)) (k + 1) = cs_rn (fun p => op (fr + p)) k + 1 := cs_rn_n hn
      refine xr_47 q fr _ k hq hf (by omega) (by omega) ?_
      rw [← es]
      have hr := cs_RI_n (f := fun p => op (fr + p)) (by omega) hn h1
      rw [← es] at hr
      refine ih (k + 1) _ (by omega) hr ?_
      intro j hj
      rw [pk_un (by omega), pk_un (by omega), pk_un (by omega), h2 j hj]
    refine br_f (nI_ge (a := k) (b := 16) (by omega) (by decide)) ?_
    rcases Nat.eq_zero_or_pos k with z | z
    · subst z
      exact br_t rfl (hnew (Or.inl rfl))
    · have e : nI (fr + k) - 1 = nI (fr + (k - 1)) := by
        rw [show fr + (k - 1) = fr + k - 1 by omega]
        exact pk_sub (b := 1) (by omega)
      refine br_f (nI_ne0 z (by omega)) ?_
      rw [nI_add fr k, e, nI_clamp (n := fr + k) (by omega), nI_clamp (n := fr + (k - 1)) (by omega)]
      refine ⟨vp_in_nI (by omega) (by omega), vp_in_nI (by omega) (by omega), ?_⟩
      by_cases y : op (fr + k) = op (fr + (k - 1))
      · refine br_t y ?_
        have es : cs_rn (fun p => op (fr + p)) (k + 1) = cs_rn (fun p => op (fr + p)) k := cs_rn_s (by omega) y
        have hp1 : 1 ≤ cs_rn (fun p => op (fr + p)) k := by
          have := cs_rn_p (fun p => op (fr + p)) (k - 1)
          rw [show k - 1 + 1 = k by omega] at this
          exact this
        refine xr_88 q fr _ k hq hp1 (by omega) ?_
        have hr := cs_RI_s (f := fun p => op (fr + p)) (by omega) (by omega) y h1
        have hi := ih (k + 1) _ (by omega) hr (fun j hj => by rw [pk_un (by omega), h2 j hj])
        rw [es] at hi
        exact hi
      · exact br_f y (hnew (Or.inr y))
theorem x_runs {post : SX → Prop} (q fr : Nat) (hq : q < 12) (hf : fr + 16 ≤ 48) (h : ∀ wn s, cs_BodyR s wn q (fun p => op (fr + p)) → cs_Out wo wn q → post (vr, vc, op, lm, upd fo q 1, lo, hg, upd sz q s, wn, rg, rl, rh, va)) : wpX_writeRuns post (vr, vc, op, lm, fo, lo, hg, sz, wo, rg, rl, rh, va) (nI q) (nI fr) := by
  have ec : (nI q).toNatClampNeg = q := nI_clamp (by omega)
  refine And.intro (vp_in_nI hq (by omega)) (nm_r (e' := upd fo q 1) (by rw [ec]) (Exists.intro 17 (xr_12 (wo := wo) q fr hq hf ?_ 16 0 wo (by omega) ⟨fun p hp => absurd hp (by omega), fun m hm => absurd hm (Nat.not_lt_zero m)⟩ (fun j _ => rfl))))
  intro wn h1 h2
  refine h wn _ ⟨cs_rn (fun p => op (fr + p)) 16, fun p => cs_rn (fun p => op (fr + p)) (p + 1) - 1, cs_rn_le _ 16, rfl, ?_, ?_⟩ h2
  · intro p hp
    have a := cs_rn_p (fun p => op (fr + p)) p
    have b := cs_rn_mn (fun p => op (fr + p)) (a := p + 1) (b := 16) (by omega)
    refine ⟨?_, h1.1 p hp⟩
    show cs_rn (fun p => op (fr + p)) (p + 1) - 1 < _
    omega
  · intro m hm p hp
    have a := cs_rn_p (fun p => op (fr + p)) p
    rw [h1.2 m hm p hp, decide_eq_decide]
    show _ ↔ cs_rn (fun p => op (fr + p)) (p + 1) - 1 = m
    omega
end
end
section
/-! closeColumn -/
def cs_Part (fo lo hg sz wo : Nat → Int32) (q : Nat) (f : Nat → Int32) : Prop := (∀ p, p < 16 → lo q ≤ f p ∧ f p ≤ hg q) ∧ cs_Body fo lo sz wo q f
def cs_Oth (a b : Nat → Int32) (q : Nat) : Prop := ∀ j, j ≠ q → b j = a j
theorem cs_OthU {a b : Nat → Int32} {q : Nat} {x : Int32} (h : cs_Oth a b q) : cs_Oth a (upd b q x) q := fun j hj => by rw [pk_un hj, h j hj]
theorem cs_Oth0 (a : Nat → Int32) (q : Nat) : cs_Oth a a q := fun _ _ => rfl
theorem cs_rfl (a : Int32) : a ≤ a := by
  rw [Int32.le_iff_toInt_le]; omega
section
variable {vr vc : Int32} {op lm fo lo hg sz wo rg rl rh va : Nat → Int32}
theorem xc_135 {post : SX → Prop} {J : Int32 → Int32 → Int32 → Int32 → (Nat → Int32) → (Nat → Int32) → (Nat → Int32) → (Nat → Int32) → (Nat → Int32) → (Nat → Int32) → (Nat → Int32) → (Nat → Int32) → (Nat → Int32) → (Nat → Int32) → (Nat → Int32) → Prop} (q fr k n : Nat) (v z0 z1 : Int32) (hn : n < 64) (hs : cs_So va n)
    (h : ∀ r m vn, cs_So vn m → (∀ x, cs_Me vn m x ↔ cs_Me va n x ∨ x = v) → m ≤ n + 1 → J r (nI (k + 1)) vr (nI m) op lm fo lo hg sz wo rg rl rh vn) :
    wX_closeColumn_135 post J (nI q) (nI fr) (nI k) v z0 z1 vr (nI n) op lm fo lo hg sz wo rg rl rh va := by
  unfold wX_closeColumn_135
  refine nm_e (x_addValue v n hn hs ?_)
  intro m vn h1 h2 h3 h4
  refine nm_r (nI_1 k) (h _ m vn h1 h2 ?_)
  by_cases z : cs_Me va n v
  · rw [h3 z]; omega
  · rw [h4 z]; omega
theorem xc_107 {post : SX → Prop} {J : Int32 → Int32 → Int32 → Int32 → (Nat → Int32) → (Nat → Int32) → (Nat → Int32) → (Nat → Int32) → (Nat → Int32) → (Nat → Int32) → (Nat → Int32) → (Nat → Int32) → (Nat → Int32) → (Nat → Int32) → (Nat → Int32) → Prop} (q fr k n : Nat) (v x3 z0 : Int32) (hq : q < 12) (hf : fr + 16 ≤ 48) (hk : k < 16) (hn : n < 64) (hs : cs_So va n)
    (h : ∀ r m vn, cs_So vn m → (∀ x, cs_Me vn m x ↔ cs_Me va n x ∨ x = v) → m ≤ n + 1 → J r (nI (k + 1)) vr (nI m) op lm fo lo (upd hg q z0) sz wo rg rl rh vn) :
    wX_closeColumn_107 post J (nI q) (nI fr) x3 (nI k) v z0 (nI q) vr (nI n) op lm fo lo hg sz wo rg rl rh va := by
  have ec : (nI q).toNatClampNeg = q := nI_clamp (by omega)
  have k0 : wX_closeColumn_134 post J (nI q) (nI fr) (nI k) v x3 vr (nI n) op lm fo lo (upd hg q z0) sz wo rg rl rh va := by
    unfold wX_closeColumn_134
    exact xc_135 q fr k n v 0 x3 hn hs h
  unfold wX_closeColumn_107
  refine And.intro (vp_in_nI hq (by omega)) (nm_r (e' := upd hg q z0) (by rw [ec]) ?_)
  rcases Nat.eq_zero_or_pos k with z | z
  · subst z
    exact br_t (nI_le (a := 0) (b := 0) (by omega) (by omega)) k0
  · have e : nI fr + nI k - 1 = nI (fr + k - 1) := by
      rw [nI_add]
      exact pk_sub (b := 1) (by omega)
    refine br_f (nI_nle z (by omega)) (And.intro ?_ (br_c (fun _ => k0) (fun _ => xc_135 q fr k n v 1 x3 hn hs h)))
    rw [e]
    exact vp_in_nI (by omega) (by omega)
theorem xc_79 {post : SX → Prop} {J : Int32 → Int32 → Int32 → Int32 → (Nat → Int32) → (Nat → Int32) → (Nat → Int32) → (Nat → Int32) → (Nat → Int32) → (Nat → Int32) → (Nat → Int32) → (Nat → Int32) → (Nat → Int32) → (Nat → Int32) → (Nat → Int32) → Prop} (q fr k n : Nat) (v x3 z0 : Int32) (hq : q < 12) (hf : fr + 16 ≤ 48) (hk : k < 16) (hn : n < 64) (hs : cs_So va n)
    (h : ∀ z1, hg q ≤ z1 → v ≤ z1 → ∀ r m vn, cs_So vn m → (∀ x, cs_Me vn m x ↔ cs_Me va n x ∨ x = v) → m ≤ n + 1 → J r (nI (k + 1)) vr (nI m) op lm fo (upd lo q z0) (upd hg q z1) sz wo rg rl rh vn) :
    wX_closeColumn_79 post J (nI q) (nI fr) x3 (nI k) v z0 (nI q) vr (nI n) op lm fo lo hg sz wo rg rl rh va := by
  have ec : (nI q).toNatClampNeg = q := nI_clamp (by omega)
  have hi := vp_in_nI hq (show 12 < 2 ^ 31 by omega)
  unfold wX_closeColumn_79
  rw [ec]
  refine And.intro hi (nm_e (And.intro hi ?_))
  by_cases z : v ≤ hg q
  · exact br_t z (And.intro hi (xc_107 q fr k n v x3 (hg q) hq hf hk hn hs (h (hg q) (cs_rfl _) z)))
  · exact br_f z (xc_107 q fr k n v x3 v hq hf hk hn hs (h v (cs_lle (cs_nle z)) (cs_rfl _)))
theorem xc_224 {post : SX → Prop} (q fr w n : Nat) (x6 x7 : Int32) (hq : q < 12) (hf : fr + 16 ≤ 48) (hw : w = cs_bF (hg q - lo q) 32) (hb : ∀ p, p < 16 → lo q ≤ op (fr + p) ∧ op (fr + p) ≤ hg q) (hn1 : 1 ≤ n) (hn : n ≤ 16) (hs : cs_So va n) (hm : ∀ p, p < 16 → cs_Me va n (op (fr + p)))
    (h : ∀ fn sn wn, cs_Oth fo fn q → cs_Oth sz sn q → cs_Out wo wn q → cs_Body fn lo sn wn q (fun p => op (fr + p)) → post (vr, nI n, op, lm, fn, lo, hg, sn, wn, rg, rl, rh, va)) :
    wX_closeColumn_224 post (nI q) (nI fr) (nI w) (nI (cs_bF (nI (n - 1)) 32)) x6 x7 vr (nI n) op lm fo lo hg sz wo rg rl rh va := by
  have hle : w ≤ 32 := by rw [hw]; exact cs_bF_le _ 32
  unfold wX_closeColumn_224
  refine br_c (fun _ => pk_le 32 w (fun _ => ?_) (fun hlt => ?_)) (fun _ => ?_)
  · exact x_plain q fr hq hf (fun wn h1 h2 => h _ _ wn (cs_OthU (cs_Oth0 fo q)) (cs_Oth0 sz q) h2 (Or.inl ⟨pk_us, h1⟩))
  · refine x_packed q fr w hq hf hlt ?_ (fun wn h1 h2 => h _ _ wn (cs_OthU (cs_Oth0 fo q)) (cs_OthU (cs_Oth0 sz q)) h2 (Or.inr (Or.inl ⟨pk_us, by rw [pk_us]; exact h1⟩)))
    intro p hp j hj
    exact cs_pkB (hb p hp).1 (hb p hp).2 (by rw [← hw]; exact hj)
  · exact x_dict q fr n hq hf hn1 hn hs hm (fun wn h1 h2 => h _ _ wn (cs_OthU (cs_Oth0 fo q)) (cs_OthU (cs_Oth0 sz q)) h2 (Or.inr (Or.inr (Or.inl ⟨pk_us, by rw [pk_us]; exact h1⟩))))
theorem xc_end {post : SX → Prop} (q fr n : Nat) (x3 : Int32) (hq : q < 12) (hf : fr + 16 ≤ 48) (hb : ∀ p, p < 16 → lo q ≤ op (fr + p) ∧ op (fr + p) ≤ hg q) (hn1 : 1 ≤ n) (hn : n ≤ 16) (hs : cs_So va n) (hm : ∀ p, p < 16 → cs_Me va n (op (fr + p)))
    (h : ∀ fn sn wn, cs_Oth fo fn q → cs_Oth sz sn q → cs_Out wo wn q → cs_Body fn lo sn wn q (fun p => op (fr + p)) → post (vr, nI n, op, lm, fn, lo, hg, sn, wn, rg, rl, rh, va)) (d : Nat) :
    wX_closeColumn_34 post (nI q) (nI fr) (d + 1) x3 (nI 16) vr (nI n) op lm fo lo hg sz wo rg rl rh va := by
  have ec : (nI q).toNatClampNeg = q := nI_clamp (by omega)
  have hi := vp_in_nI hq (show 12 < 2 ^ 31 by omega)
  have e1 : nI n - 1 = nI (n - 1) := pk_sub (b := 1) hn1
  have k : ∀ x6 x7, wX_closeColumn_224 post (nI q) (nI fr) (nI (cs_bF (hg q - lo q) 32)) (nI (cs_bF (nI (n - 1)) 32)) x6 x7 vr (nI n) op lm fo lo hg sz wo rg rl rh va := fun x6 x7 => xc_224 q fr _ n x6 x7 hq hf rfl hb hn1 hn hs hm h
  refine br_t (nI_le (a := 16) (b := 16) (by omega) (by decide)) (And.intro hi (And.intro hi ?_))
  rw [ec, e1]
  refine x_bitsFor _ (x_bitsFor _ (nm_e (nm_e (br_c (fun _ => k _ _) (fun _ => br_c (fun _ => k _ _) (fun _ => ?_))))))
  exact x_runs q fr hq hf (fun wn s h1 h2 => h _ _ wn (cs_OthU (cs_Oth0 fo q)) (cs_OthU (cs_Oth0 sz q)) h2 (Or.inr (Or.inr (Or.inr ⟨pk_us, by rw [pk_us]; exact h1⟩))))
theorem xc_34 {post : SX → Prop} (q fr : Nat) (hq : q < 12) (hf : fr + 16 ≤ 48)
    (h : ∀ m fn ln hn sn wn vn, cs_Oth fo fn q → cs_Oth lo ln q → cs_Oth hg hn q → cs_Oth sz sn q → cs_Out wo wn q → cs_Part fn ln hn sn wn q (fun p => op (fr + p)) → post (vr, m, op, lm, fn, ln, hn, sn, wn, rg, rl, rh, vn)) :
    ∀ d k n x3 ln hn vn, k + d = 16 → n ≤ k → cs_Oth lo ln q → cs_Oth hg hn q → (∀ p, p < k → ln q ≤ op (fr + p) ∧ op (fr + p) ≤ hn q) → cs_So vn n → (∀ p, p < k → cs_Me vn n (op (fr + p))) → wX_closeColumn_34 post (nI q) (nI fr) (d + 1) x3 (nI k) vr (nI n) op lm fo ln hn sz wo rg rl rh vn := by
  have ec : (nI q).toNatClampNeg = q := nI_clamp (by omega)
  have hi := vp_in_nI hq (show 12 < 2 ^ 31 by omega)
  intro d
  induction d with
  | zero =>
    intro k n x3 ln hn vn h1 h2 h3 h4 h5 h6 h7
    obtain rfl : k = 16 := by omega
    have hn1 : 1 ≤ n := by
      obtain ⟨e, he, _⟩ := h7 0 (by omega)
      omega
    exact xc_end q fr n x3 hq hf h5 hn1 h2 h6 h7 (fun fn sn wn a b c dd => h _ fn ln hn sn wn vn a h3 h4 b c ⟨h5, dd⟩) 0
  | succ d ih =>
    intro k n x3 ln hn vn h1 h2 h3 h4 h5 h6 h7
    have K : ∀ z0, z0 ≤ ln q → z0 ≤ op (fr + k) → wX_closeColumn_79 post (wX_closeColumn_34 post (nI q) (nI fr) (d + 1)) (nI q) (nI fr) x3 (nI k) (op (fr + k)) z0 (nI q) vr (nI n) op lm fo ln hn sz wo rg rl rh vn := by
      intro z0 a0 b0
      refine xc_79 q fr k n _ x3 z0 hq hf (by omega) (by omega) h6 ?_
      intro z1 a1 b1 r m vm s1 s2 s3
      refine ih (k + 1) m r _ _ vm (by omega) (by omega) (cs_OthU h3) (cs_OthU h4) ?_ s1 ?_
      · intro p hp
        rw [pk_us, pk_us]
        rcases Nat.lt_or_ge p k with y | y
        · exact ⟨Int32.le_trans a0 (h5 p y).1, Int32.le_trans (h5 p y).2 a1⟩
        · obtain rfl : p = k := by omega
          exact ⟨b0, b1⟩
      · intro p hp
        rcases Nat.lt_or_ge p k with y | y
        · exact (s2 _).mpr (Or.inl (h7 p y))
        · obtain rfl : p = k := by omega
          exact (s2 _).mpr (Or.inr rfl)
    refine br_f (nI_ge (a := k) (b := 16) (by omega) (by decide)) ?_
    rw [ec, nI_add fr k, nI_clamp (n := fr + k) (by omega)]
    refine And.intro (vp_in_nI (by omega) (by omega)) (nm_e (And.intro hi ?_))
    by_cases z : ln q ≤ op (fr + k)
    · exact br_t z (And.intro hi (K _ (cs_rfl _) z))
    · exact br_f z (K _ (cs_lle (cs_nle z)) (cs_rfl _))
theorem x_close {post : SX → Prop} (q fr : Nat) (hq : q < 12) (hf : fr + 16 ≤ 48)
    (h : ∀ m fn ln hn sn wn vn, cs_Oth fo fn q → cs_Oth lo ln q → cs_Oth hg hn q → cs_Oth sz sn q → cs_Out wo wn q → cs_Part fn ln hn sn wn q (fun p => op (fr + p)) → post (vr, m, op, lm, fn, ln, hn, sn, wn, rg, rl, rh, vn)) :
    wpX_closeColumn post (vr, vc, op, lm, fo, lo, hg, sz, wo, rg, rl, rh, va) (nI q) (nI fr) := by
  have ec : (nI q).toNatClampNeg = q := nI_clamp (by omega)
  have hi := vp_in_nI hq (show 12 < 2 ^ 31 by omega)
  have hj := vp_in_nI (show fr < 48 by omega) (show 48 < 2 ^ 31 by omega)
  unfold wpX_closeColumn
  dsimp only
  rw [ec]
  refine And.intro hj (And.intro hi (nm_e (And.intro hj (And.intro hi (nm_e (Exists.intro 17 ?_))))))
  exact xc_34 q fr hq hf h 16 0 0 1 _ _ va (by omega) (by omega) (cs_OthU (cs_Oth0 lo q)) (cs_OthU (cs_Oth0 hg q)) (fun p hp => absurd hp (by omega)) (fun i j _ hj => absurd hj (by omega)) (fun p hp => absurd hp (by omega))
end
end
section
/-! reading one value -/
def cs_F (R : Nat) (V op : Nat → Int32) (g c p : Nat) : Int32 := if 16 * g + 16 ≤ R then V (3 * (16 * g + p) + c) else op (16 * c + p)
def cs_Cl (R : Nat) (V fo lo hg sz wo : Nat → Int32) : Prop := ∀ g c, 16 * g + 16 ≤ R → c < 3 → cs_Part fo lo hg sz wo (3 * g + c) (fun p => V (3 * (16 * g + p) + c))
theorem cs_16 (g : Nat) : (16 : Int32) * nI g = nI (16 * g) := pk_mul 16 g
theorem cs_3m (g : Nat) : (3 : Int32) * nI g = nI (3 * g) := pk_mul 3 g
theorem cs_a16 (g : Nat) : nI g + 16 = nI (g + 16) := nI_add g 16
theorem cs_lsub (a b : Int32) : b + (a - b) = a := by
  rw [Int32.add_comm, Int32.sub_add_cancel]
section
variable {vr vc : Int32} {op lm fo lo hg sz wo rg rl rh va : Nat → Int32}
theorem x_closed1 {post : Int32 → Prop} {R g : Nat} (hR : R ≤ 64) (hc : 16 * g + 16 ≤ R) (h : post 1) : wpX_isClosed post (nI R, vc, op, lm, fo, lo, hg, sz, wo, rg, rl, rh, va) (nI g) := by
  unfold wpX_isClosed
  dsimp only
  rw [cs_16, cs_a16]
  exact br_f (nI_nlt hc (by omega)) h
theorem x_closed0 {post : Int32 → Prop} {R g : Nat} (hg4 : g < 4) (hc : R < 16 * g + 16) (h : post 0) : wpX_isClosed post (nI R, vc, op, lm, fo, lo, hg, sz, wo, rg, rl, rh, va) (nI g) := by
  unfold wpX_isClosed
  dsimp only
  rw [cs_16, cs_a16]
  exact br_t (nI_lt hc (by omega)) h
theorem x_ixb {post : Int32 → Prop} (q n : Nat) (hq : q < 12) (hn1 : 1 ≤ n) (hs : sz q = nI n) (h : post (nI (cs_bF (nI (n - 1)) 32))) : wpX_indexBitsOf post (vr, vc, op, lm, fo, lo, hg, sz, wo, rg, rl, rh, va) (nI q) := by
  have e1 : nI n - 1 = nI (n - 1) := pk_sub (b := 1) hn1
  unfold wpX_indexBitsOf
  dsimp only
  rw [nI_clamp (n := q) (by omega), hs, e1]
  exact And.intro (vp_in_nI hq (by omega)) (x_bitsFor _ h)
theorem x_vi_136 {post : Int32 → Prop} (q n r p : Nat) (f : Nat → Int32) (hq : q < 12) (hn : n ≤ 16) (hs : sz q = nI n) (hp : p < 16) (hr : r < n) (hv : wo (34 * q + 2 * r) = f p) (hb : ∀ m, m < n → bt (wo (34 * q + 2 * m + 1)) p = decide (r = m)) (h : post (f p)) :
    ∀ d m, m + d = r → wX_valueIn_136 post (nI p) (nI q) (nI (34 * q)) vr vc op lm fo lo hg sz wo rg rl rh va (d + 1) (nI m) := by
  intro d
  induction d with
  | zero =>
    intro m hd
    obtain rfl : m = r := by omega
    unfold wX_valueIn_136
    rw [cs_2m, nI_add (34 * q) (2 * m), nI_1 (34 * q + 2 * m), nI_clamp (n := 34 * q + 2 * m) (by omega), nI_clamp (n := 34 * q + 2 * m + 1) (by omega), nI_clamp (n := q) (by omega), hs, hv]
    exact ⟨vp_in_nI hq (by omega), br_f (nI_ge hr (by omega)) ⟨vp_in_nI (by omega) (by omega), br_f (cs_bz1 _ p (by omega) (by rw [hb m hr, decide_eq_true rfl])) ⟨vp_in_nI (by omega) (by omega), h⟩⟩⟩
  | succ d ih =>
    intro m hd
    unfold wX_valueIn_136
    rw [cs_2m, nI_add (34 * q) (2 * m), nI_1 (34 * q + 2 * m), nI_clamp (n := 34 * q + 2 * m) (by omega), nI_clamp (n := 34 * q + 2 * m + 1) (by omega), nI_clamp (n := q) (by omega), hs]
    exact ⟨vp_in_nI hq (by omega), br_f (nI_ge (by omega) (by omega)) ⟨vp_in_nI (by omega) (by omega), br_t ((cs_bz _ p (by omega)).mpr (by rw [hb m (by omega), decide_eq_false (by omega)])) (nm_r (nI_1 m) (ih (m + 1) (by omega)))⟩⟩
theorem x_valueIn {post : Int32 → Prop} {R : Nat} {V : Nat → Int32} (hR : R ≤ 64) (hC : cs_Cl R V fo lo hg sz wo) (g c p : Nat) (hg4 : g < 4) (hc : c < 3) (hp : p < 16) (h : post (cs_F R V op g c p)) : wpX_valueIn post (nI R, vc, op, lm, fo, lo, hg, sz, wo, rg, rl, rh, va) (nI g) (nI c) (nI p) := by
  unfold wpX_valueIn
  dsimp only
  unfold cs_F at h
  by_cases hcl : 16 * g + 16 ≤ R
  · rw [if_pos hcl] at h
    have hq : 3 * g + c < 12 := by omega
    have hi := vp_in_nI hq (show 12 < 2 ^ 31 by omega)
    have hP := (hC g c hcl hc).2
    have eq : (3 : Int32) * nI g + nI c = nI (3 * g + c) := by rw [cs_3m, nI_add]
    generalize 3 * g + c = q at *
    refine x_closed1 hR hcl (br_f (by decide) (nm_r eq (nm_r (cs_34 q) ?_)))
    rw [nI_clamp (n := q) (by omega)]
    refine And.intro hi ?_
    rcases hP with ⟨ef, hb⟩ | ⟨ef, w, hw, es, hb⟩ | ⟨ef, n, hn1, hn, es, hs, hb⟩ | ⟨ef, n, ro, hn, es, h1, h2⟩
    · refine br_t ef ?_
      rw [nI_add (34 * q) p, nI_clamp (n := 34 * q + p) (by omega), hb p hp]
      exact ⟨vp_in_nI (by omega) (by omega), h⟩
    · refine br_f (by rw [ef]; decide) (And.intro hi (br_t ef (And.intro hi (And.intro hi ?_))))
      rw [es]
      exact x_getBits (34 * q) w p (w * p) rfl hw hp (by omega) _ (hb p hp) (ek_v (P := post) (cs_lsub _ _) h)
    · refine br_f (by rw [ef]; decide) (And.intro hi (br_f (by rw [ef]; decide) (And.intro hi (br_t ef ?_))))
      refine x_ixb q n hq hn1 es (And.intro hi ?_)
      obtain ⟨i, hin, hiv, hib⟩ := hb p hp
      have h4 := cs_bF16 (n - 1) (by omega)
      rw [es, nI_add (34 * q) n]
      refine x_getBits (34 * q + n) _ p _ rfl (by omega) hp (by omega) (nI i) hib ?_
      rw [nI_add (34 * q) i, nI_clamp (n := 34 * q + i) (by omega), hiv]
      exact ⟨vp_in_nI (by omega) (by omega), h⟩
    · refine br_f (by rw [ef]; decide) (And.intro hi (br_f (by rw [ef]; decide) (And.intro hi (br_f (by rw [ef]; decide) (Exists.intro (ro p + 1) ?_)))))
      exact x_vi_136 q n (ro p) p (fun p => V (3 * (16 * g + p) + c)) hq hn es hp (h1 p hp).1 (h1 p hp).2 (fun m hm => h2 m hm p hp) h (ro p) 0 (by omega)
  · rw [if_neg hcl] at h
    refine x_closed0 hg4 (by omega) (br_t rfl ?_)
    rw [cs_16, nI_add (16 * c) p, nI_clamp (n := 16 * c + p) (by omega)]
    exact ⟨vp_in_nI (by omega) (by omega), h⟩
end
end
section
/-! the masks of a group -/
def cs_rg (a b x : Int32) : Bool := decide (a ≤ x) && decide (x ≤ b)
theorem cs_rg_t {a b x : Int32} (h1 : ¬ x < a) (h2 : ¬ b < x) : cs_rg a b x = true := by
  unfold cs_rg
  rw [decide_eq_true (cs_nlt h1), decide_eq_true (cs_nlt h2)]
  rfl
theorem cs_rg_l {a b x : Int32} (h : x < a) : cs_rg a b x = false := by
  unfold cs_rg
  rw [decide_eq_false (cs_gnl h)]
  rfl
theorem cs_rg_h {a b x : Int32} (h : b < x) : cs_rg a b x = false := by
  unfold cs_rg
  rw [decide_eq_false (cs_gnl h), Bool.and_false]
theorem cs_cn_down {P : Nat → Bool} {n i : Nat} (hi : i < n) (hd : ∀ a b, a < b → b < n → P b = true → P a = true) : i < cs_cn P n ↔ P i = true := by
  constructor
  · intro h
    cases hp : P i
    · exfalso
      have e : ∀ d, i + d ≤ n → cs_cn P (i + d) = cs_cn P i := by
        intro d
        induction d with
        | zero => intro _; rfl
        | succ d ih =>
          intro hdn
          have z : P (i + d) = false := by
            cases hq : P (i + d)
            · rfl
            · rcases Nat.eq_zero_or_pos d with y | y
              · subst y; rw [Nat.add_zero, hp] at hq; exact hq.symm
              · have := hd i (i + d) (by omega) (by omega) hq
                rw [hp] at this; exact this.symm
          show cs_cn P (i + d + 1) = _
          rw [cs_cn_f z, ih (by omega)]
      have e2 := e (n - i) (by omega)
      rw [show i + (n - i) = n by omega] at e2
      have := cs_cn_le P i
      omega
    · rfl
  · intro h
    have e : ∀ k, k ≤ i + 1 → cs_cn P k = k := by
      intro k
      induction k with
      | zero => intro _; rfl
      | succ k ih =>
        intro hk
        have z : P k = true := by
          rcases Nat.lt_or_ge k i with y | y
          · exact hd k i y hi h
          · rw [show k = i by omega]; exact h
        rw [cs_cn_t z, ih (by omega)]
    have := e (i + 1) (by omega)
    have := cs_cn_mn P (a := i + 1) (b := n) (by omega)
    omega
section
variable {vr vc : Int32} {op lm fo lo hg sz wo rg rl rh va : Nat → Int32}
theorem x_runMask_l {post : Int32 → Prop} (q n : Nat) (ro : Nat → Nat) (f : Nat → Int32) (a b : Int32) (hq : q < 12) (hn : n ≤ 16) (es : sz q = nI n) (h1 : ∀ p, p < 16 → ro p < n ∧ wo (34 * q + 2 * ro p) = f p) (h2 : ∀ m, m < n → ∀ p, p < 16 → bt (wo (34 * q + 2 * m + 1)) p = decide (ro p = m))
    (h : ∀ m, (∀ p, p < 16 → bt m p = cs_rg a b (f p)) → post m) :
    ∀ d k m, k + d = n → (∀ p, p < 16 → bt m p = (decide (ro p < k) && cs_rg a b (f p))) → wX_runMask_6 post (nI q) a b vr vc op lm fo lo hg sz wo rg rl rh va (d + 1) m (nI k) := by
  have ec : (nI q).toNatClampNeg = q := nI_clamp (by omega)
  have hi := vp_in_nI hq (show 12 < 2 ^ 31 by omega)
  intro d
  induction d with
  | zero =>
    intro k m hd hm
    obtain rfl : k = n := by omega
    unfold wX_runMask_6
    rw [ec, es]
    refine And.intro hi (br_t (nI_le (a := k) (b := k) (by omega) (by omega)) (h m ?_))
    intro p hp
    rw [hm p hp, decide_eq_true (h1 p hp).1, Bool.true_and]
  | succ d ih =>
    intro k m hd hm
    have z0 : cs_rg a b (wo (34 * q + 2 * k)) = false → ∀ p, p < 16 → bt (m ||| 0) p = (decide (ro p < k + 1) && cs_rg a b (f p)) := by
      intro z p hp
      rw [b_or, b_0, Bool.or_false, hm p hp]
      by_cases y : ro p = k
      · rw [← (h1 p hp).2, y, z, Bool.and_false, Bool.and_false]
      · rw [show decide (ro p < k + 1) = decide (ro p < k) from decide_eq_decide.mpr (by omega)]
    unfold wX_runMask_6
    rw [cs_34, cs_2m, nI_add (34 * q) (2 * k), nI_1 (34 * q + 2 * k), nI_clamp (n := 34 * q + 2 * k) (by omega), nI_clamp (n := 34 * q + 2 * k + 1) (by omega), ec, es]
    refine And.intro hi (br_f (nI_ge (a := k) (b := n) (by omega) (by omega)) (And.intro (vp_in_nI (by omega) (by omega)) (nm_e ?_)))
    by_cases c1 : wo (34 * q + 2 * k) < a
    · exact br_t c1 (nm_e (nm_r (nI_1 k) (ih (k + 1) _ (by omega) (z0 (cs_rg_l c1)))))
    · refine br_f c1 ?_
      by_cases c2 : b < wo (34 * q + 2 * k)
      · exact br_t c2 (nm_e (nm_r (nI_1 k) (ih (k + 1) _ (by omega) (z0 (cs_rg_h c2)))))
      · refine br_f c2 (And.intro (vp_in_nI (by omega) (by omega)) (nm_e (nm_r (nI_1 k) (ih (k + 1) _ (by omega) ?_))))
        intro p hp
        rw [b_or, hm p hp, h2 k (by omega) p hp]
        by_cases y : ro p = k
        · rw [← (h1 p hp).2, y, cs_rg_t c1 c2, decide_eq_true (p := k = k) rfl, decide_eq_true (p := k < k + 1) (by omega)]
          simp
        · rw [show decide (ro p < k + 1) = decide (ro p < k) from decide_eq_decide.mpr (by omega), decide_eq_false (p := ro p = k) y, Bool.or_false]
theorem x_dm_91 {post : Int32 → Prop} (q n A B w : Nat) (f : Nat → Int32) (ix : Nat → Nat) (a b : Int32) (hq : q < 12) (hn : n ≤ 16) (hA : A ≤ 16) (hB : B ≤ 16) (hw : w ≤ 4) (es : sz q = nI n) (hx : ∀ p, p < 16 → ix p < n ∧ ∀ j, j < 32 → bt (nI (ix p)) j = (decide (j < w) && cs_bs wo (34 * q + n) (w * p + j))) (hr : ∀ p, p < 16 → cs_rg a b (f p) = (decide (A ≤ ix p) && decide (ix p < B)))
    (h : ∀ m, (∀ p, p < 16 → bt m p = cs_rg a b (f p)) → post m) :
    ∀ d k m, k + d = 16 → (∀ p, p < 16 → bt m p = (decide (p < k) && cs_rg a b (f p))) → wX_dictionaryMask_91 post (nI q) (nI A) (nI B) (nI w) vr vc op lm fo lo hg sz wo rg rl rh va (d + 1) m (nI k) := by
  have ec : (nI q).toNatClampNeg = q := nI_clamp (by omega)
  have hi := vp_in_nI hq (show 12 < 2 ^ 31 by omega)
  intro d
  induction d with
  | zero =>
    intro k m hd hm
    obtain rfl : k = 16 := by omega
    refine br_t (nI_le (a := 16) (b := 16) (by omega) (by decide)) (h m ?_)
    intro p hp
    rw [hm p hp, decide_eq_true hp, Bool.true_and]
  | succ d ih =>
    intro k m hd hm
    have hk : k < 16 := by omega
    have z0 : cs_rg a b (f k) = false → ∀ p, p < 16 → bt (m ||| 0) p = (decide (p < k + 1) && cs_rg a b (f p)) := by
      intro z p hp
      rw [b_or, b_0, Bool.or_false, hm p hp]
      by_cases y : p = k
      · rw [y, z, Bool.and_false, Bool.and_false]
      · rw [show decide (p < k + 1) = decide (p < k) from decide_eq_decide.mpr (by omega)]
    have hxn := (hx k hk).1
    refine br_f (nI_ge (a := k) (b := 16) (by omega) (by decide)) (And.intro hi ?_)
    rw [ec, es, cs_34, nI_add (34 * q) n]
    refine x_getBits (34 * q + n) w k (w * k) rfl (by omega) hk (by omega) (nI (ix k)) (hx k hk).2 ?_
    by_cases c1 : ix k < A
    · refine br_t (nI_lt c1 (by omega)) (nm_e (nm_r (nI_1 k) (ih (k + 1) _ (by omega) (z0 ?_))))
      rw [hr k hk, decide_eq_false (p := A ≤ ix k) (by omega), Bool.false_and]
    · refine br_f (nI_nlt (by omega) (by omega)) ?_
      by_cases c2 : B ≤ ix k
      · refine br_t (nI_le c2 (by omega)) (nm_e (nm_r (nI_1 k) (ih (k + 1) _ (by omega) (z0 ?_))))
        rw [hr k hk, decide_eq_false (p := ix k < B) (by omega), Bool.and_false]
      · refine br_f (nI_ge (by omega) (by omega)) (nm_e (nm_r (nI_1 k) (ih (k + 1) _ (by omega) ?_)))
        intro p hp
        rw [b_or, hm p hp, cs_sh1 k (by omega) (by omega)]
        by_cases y : p = k
        · rw [y, hr k hk, decide_eq_true (p := A ≤ ix k) (by omega), decide_eq_true (p := ix k < B) (by omega), decide_eq_true (p := k = k) rfl, decide_eq_true (p := k < k + 1) (by omega)]
          simp
        · rw [show decide (p < k + 1) = decide (p < k) from decide_eq_decide.mpr (by omega), decide_eq_false (p := p = k) y, Bool.or_false]
theorem x_dm_43 {post : Int32 → Prop} {J : Int32 → Int32 → Int32 → Prop} (q e x y : Nat) (a b z0 : Int32) (hq : q < 12) (he : e < 16) (hz : nI x + z0 = nI (x + (decide (wo (34 * q + e) < a)).toNat))
    (h : J (nI (x + (decide (wo (34 * q + e) < a)).toNat)) (nI (y + (decide (wo (34 * q + e) ≤ b)).toNat)) (nI (e + 1))) : wX_dictionaryMask_43 post J (nI q) a b (nI y) (nI e) z0 (nI x) vr vc op lm fo lo hg sz wo rg rl rh va := by
  unfold wX_dictionaryMask_43
  refine nm_r hz ?_
  rw [cs_34, nI_add (34 * q) e, nI_clamp (n := 34 * q + e) (by omega)]
  refine And.intro (vp_in_nI (by omega) (by omega)) ?_
  by_cases c : b < wo (34 * q + e)
  · rw [decide_eq_false (p := wo (34 * q + e) ≤ b) (cs_gnl c)] at h
    exact br_t c (nm_r (nI_add y 0) (nm_r (nI_1 e) h))
  · rw [decide_eq_true (p := wo (34 * q + e) ≤ b) (cs_nlt c)] at h
    exact br_f c (nm_r (nI_add y 1) (nm_r (nI_1 e) h))
theorem x_dm_9 {post : Int32 → Prop} (q n : Nat) (a b : Int32) (hq : q < 12) (hn1 : 1 ≤ n) (hn : n ≤ 16) (es : sz q = nI n)
    (h : ∃ m, wX_dictionaryMask_91 post (nI q) (nI (cs_cn (fun e => decide (wo (34 * q + e) < a)) n)) (nI (cs_cn (fun e => decide (wo (34 * q + e) ≤ b)) n)) (nI (cs_bF (nI (n - 1)) 32)) vr vc op lm fo lo hg sz wo rg rl rh va m 0 0) :
    ∀ d e, e + d = n → wX_dictionaryMask_9 post (nI q) a b vr vc op lm fo lo hg sz wo rg rl rh va (d + 1) (nI (cs_cn (fun e => decide (wo (34 * q + e) < a)) e)) (nI (cs_cn (fun e => decide (wo (34 * q + e) ≤ b)) e)) (nI e) := by
  have ec : (nI q).toNatClampNeg = q := nI_clamp (by omega)
  have hi := vp_in_nI hq (show 12 < 2 ^ 31 by omega)
  intro d
  induction d with
  | zero =>
    intro e hd
    obtain rfl : e = n := by omega
    unfold wX_dictionaryMask_9
    rw [ec, es]
    exact And.intro hi (br_t (nI_le (a := e) (b := e) (by omega) (by omega)) (x_ixb q e hq hn1 es h))
  | succ d ih =>
    intro e hd
    have k := ih (e + 1) (by omega)
    unfold wX_dictionaryMask_9
    rw [ec, es, cs_34, nI_add (34 * q) e, nI_clamp (n := 34 * q + e) (by omega)]
    refine And.intro hi (br_f (nI_ge (a := e) (b := n) (by omega) (by omega)) (And.intro (vp_in_nI (by omega) (by omega)) ?_))
    by_cases c : a ≤ wo (34 * q + e)
    · refine br_t c (x_dm_43 q e _ _ a b 0 hq (by omega) ?_ k)
      rw [decide_eq_false (p := wo (34 * q + e) < a) (cs_lnl c)]
      exact nI_add _ 0
    · refine br_f c (x_dm_43 q e _ _ a b 1 hq (by omega) ?_ k)
      rw [decide_eq_true (p := wo (34 * q + e) < a) (cs_nle c)]
      exact nI_add _ 1
theorem x_dictMask {post : Int32 → Prop} (q : Nat) (f : Nat → Int32) (a b : Int32) (hq : q < 12) (hD : cs_BodyD (sz q) wo q f) (h : ∀ m, (∀ p, p < 16 → bt m p = cs_rg a b (f p)) → post m) : wpX_dictionaryMask post (vr, vc, op, lm, fo, lo, hg, sz, wo, rg, rl, rh, va) (nI q) a b := by
  obtain ⟨n, hn1, hn, es, hs, hb⟩ := hD
  have h4 := cs_bF16 (n - 1) (by omega)
  have hc : ∀ p, ∃ i, p < 16 → (i < n ∧ wo (34 * q + i) = f p ∧ ∀ j, j < 32 → bt (nI i) j = (decide (j < cs_bF (nI (n - 1)) 32) && cs_bs wo (34 * q + n) (cs_bF (nI (n - 1)) 32 * p + j))) := by
    intro p
    by_cases hp : p < 16
    · obtain ⟨i, hi⟩ := hb p hp
      exact ⟨i, fun _ => hi⟩
    · exact ⟨0, fun z => absurd z hp⟩
  obtain ⟨ix, hx⟩ := Classical.axiomOfChoice hc
  have lA := cs_cn_le (fun e => decide (wo (34 * q + e) < a)) n
  have lB := cs_cn_le (fun e => decide (wo (34 * q + e) ≤ b)) n
  refine Exists.intro (n + 1) (x_dm_9 q n a b hq hn1 hn es ⟨17, ?_⟩ n 0 (by omega))
  refine x_dm_91 q n _ _ _ f ix a b hq hn (by omega) (by omega) h4 es (fun p hp => ⟨(hx p hp).1, (hx p hp).2.2⟩) ?_ h 16 0 0 (by omega) ?_
  · intro p hp
    obtain ⟨h1, h2, _⟩ := hx p hp
    have kA := cs_cn_down (P := fun e => decide (wo (34 * q + e) < a)) h1 (fun x y hxy hy hz => decide_eq_true (cs_ltt (hs x y hxy hy) (of_decide_eq_true hz)))
    have kB := cs_cn_down (P := fun e => decide (wo (34 * q + e) ≤ b)) h1 (fun x y hxy hy hz => decide_eq_true (cs_lle (cs_ltl (hs x y hxy hy) (of_decide_eq_true hz))))
    rw [decide_eq_true_eq, h2] at kA kB
    unfold cs_rg
    congr 1
    · rw [decide_eq_decide]
      constructor
      · intro z
        have := mt kA.mp (cs_lnl z)
        omega
      · intro z
        exact cs_nlt (fun y => absurd (kA.mpr y) (by omega))
    · rw [decide_eq_decide]
      exact kB.symm
  · intro p hp
    rw [b_0, decide_eq_false (p := p < 0) (by omega), Bool.false_and]
theorem x_rm_139 {post : Int32 → Prop} {R : Nat} {V : Nat → Int32} (hR : R ≤ 64) (hC : cs_Cl R V fo lo hg sz wo) (g c : Nat) (a b : Int32) (hg4 : g < 4) (hc : c < 3)
    (h : ∀ m, (∀ p, p < 16 → bt m p = cs_rg a b (cs_F R V op g c p)) → post m) :
    ∀ d k m, k + d = 16 → (∀ p, p < 16 → bt m p = (decide (p < k) && cs_rg a b (cs_F R V op g c p))) → wX_rangeMask_139 post (nI g) (nI c) a b (nI R) vc op lm fo lo hg sz wo rg rl rh va (d + 1) m (nI k) := by
  intro d
  induction d with
  | zero =>
    intro k m hd hm
    obtain rfl : k = 16 := by omega
    refine br_t (nI_le (a := 16) (b := 16) (by omega) (by decide)) (h m ?_)
    intro p hp
    rw [hm p hp, decide_eq_true hp, Bool.true_and]
  | succ d ih =>
    intro k m hd hm
    have hk : k < 16 := by omega
    have z0 : cs_rg a b (cs_F R V op g c k) = false → ∀ p, p < 16 → bt (m ||| 0) p = (decide (p < k + 1) && cs_rg a b (cs_F R V op g c p)) := by
      intro z p hp
      rw [b_or, b_0, Bool.or_false, hm p hp]
      by_cases y : p = k
      · rw [y, z, Bool.and_false, Bool.and_false]
      · rw [show decide (p < k + 1) = decide (p < k) from decide_eq_decide.mpr (by omega)]
    refine br_f (nI_ge (a := k) (b := 16) (by omega) (by decide)) (x_valueIn hR hC g c k hg4 hc hk ?_)
    by_cases c1 : cs_F R V op g c k < a
    · exact br_t c1 (nm_e (nm_r (nI_1 k) (ih (k + 1) _ (by omega) (z0 (cs_rg_l c1)))))
    · refine br_f c1 ?_
      by_cases c2 : b < cs_F R V op g c k
      · exact br_t c2 (nm_e (nm_r (nI_1 k) (ih (k + 1) _ (by omega) (z0 (cs_rg_h c2)))))
      · refine br_f c2 (nm_e (nm_r (nI_1 k) (ih (k + 1) _ (by omega) ?_)))
        intro p hp
        rw [b_or, hm p hp, cs_sh1 k (by omega) (by omega)]
        by_cases y : p = k
        · rw [y, cs_rg_t c1 c2, decide_eq_true (p := k = k) rfl, decide_eq_true (p := k < k + 1) (by omega)]
          simp
        · rw [show decide (p < k + 1) = decide (p < k) from decide_eq_decide.mpr (by omega), decide_eq_false (p := p = k) y, Bool.or_false]
theorem x_rangeMask {post : Int32 → Prop} {R : Nat} {V : Nat → Int32} (hR : R ≤ 64) (hC : cs_Cl R V fo lo hg sz wo) (g c : Nat) (a b : Int32) (hg4 : g < 4) (hc : c < 3)
    (h : ∀ m, (∀ p, p < 16 → bt m p = cs_rg a b (cs_F R V op g c p)) → post m) : wpX_rangeMask post (nI R, vc, op, lm, fo, lo, hg, sz, wo, rg, rl, rh, va) (nI g) (nI c) a b := by
  have hq : 3 * g + c < 12 := by omega
  have hi := vp_in_nI hq (show 12 < 2 ^ 31 by omega)
  have ec : (nI (3 * g + c)).toNatClampNeg = 3 * g + c := nI_clamp (by omega)
  have eq : (3 : Int32) * nI g + nI c = nI (3 * g + c) := by rw [cs_3m, nI_add]
  have L : ∃ n, wX_rangeMask_139 post (nI g) (nI c) a b (nI R) vc op lm fo lo hg sz wo rg rl rh va n 0 0 := ⟨17, x_rm_139 hR hC g c a b hg4 hc h 16 0 0 (by omega) (fun p hp => by rw [b_0, decide_eq_false (p := p < 0) (by omega), Bool.false_and])⟩
  unfold wpX_rangeMask
  dsimp only
  refine nm_r eq ?_
  by_cases hcl : 16 * g + 16 ≤ R
  · have hF : ∀ p, cs_F R V op g c p = V (3 * (16 * g + p) + c) := fun p => if_pos hcl
    obtain ⟨hB, hP⟩ := hC g c hcl hc
    refine x_closed1 hR hcl (br_f (by decide) (And.intro hi ?_))
    rw [ec]
    have k81 : wX_rangeMask_81 post (nI g) (nI c) a b (nI (3 * g + c)) 1 (nI R) vc op lm fo lo hg sz wo rg rl rh va := by
      unfold wX_rangeMask_81
      refine br_f (by decide) (And.intro hi ?_)
      rw [ec]
      by_cases c1 : fo (3 * g + c) = 1
      · refine br_t c1 ?_
        rcases hP with ⟨ef, _⟩ | ⟨ef, _⟩ | ⟨ef, _⟩ | ⟨_, n, ro, hn, es, h1, h2⟩
        · exact absurd (ef.symm.trans c1) (by decide)
        · exact absurd (ef.symm.trans c1) (by decide)
        · exact absurd (ef.symm.trans c1) (by decide)
        · refine Exists.intro (n + 1) (x_runMask_l (3 * g + c) n ro (fun p => V (3 * (16 * g + p) + c)) a b hq hn es h1 h2 (fun m hm => h m (fun p hp => by rw [hF]; exact hm p hp)) n 0 0 (by omega) ?_)
          intro p hp
          rw [b_0, decide_eq_false (p := ro p < 0) (by omega), Bool.false_and]
      · refine br_f c1 ?_
        unfold wX_rangeMask_107
        refine br_f (by decide) (And.intro hi ?_)
        rw [ec]
        by_cases c2 : fo (3 * g + c) = 2
        · refine br_t c2 ?_
          rcases hP with ⟨ef, _⟩ | ⟨ef, _⟩ | ⟨_, hD⟩ | ⟨ef, _⟩
          · exact absurd (ef.symm.trans c2) (by decide)
          · exact absurd (ef.symm.trans c2) (by decide)
          · exact x_dictMask (3 * g + c) _ a b hq hD (fun m hm => h m (fun p hp => by rw [hF]; exact hm p hp))
          · exact absurd (ef.symm.trans c2) (by decide)
        · exact br_f c2 L
    by_cases c1 : hg (3 * g + c) < a
    · refine br_t c1 (h 0 (fun p hp => ?_))
      rw [b_0, hF]
      exact (cs_rg_l (cs_llt (hB p hp).2 c1)).symm
    · refine br_f c1 (And.intro hi ?_)
      by_cases c2 : b < lo (3 * g + c)
      · refine br_t c2 (h 0 (fun p hp => ?_))
        rw [b_0, hF]
        exact (cs_rg_h (cs_ltl c2 (hB p hp).1)).symm
      · refine br_f c2 ?_
        by_cases c3 : a ≤ b
        · refine br_t c3 ?_
          unfold wX_rangeMask_50
          refine br_f (by decide) (And.intro hi ?_)
          rw [ec]
          refine br_c (fun _ => k81) (fun c4 => And.intro hi (br_c (fun _ => k81) (fun c5 => h _ (fun p hp => ?_))))
          rw [b_65535, decide_eq_true hp, hF]
          exact (cs_rg_t (cs_lnl (Int32.le_trans (cs_nlt c4) (hB p hp).1)) (cs_lnl (Int32.le_trans (hB p hp).2 (cs_nlt c5)))).symm
        · refine br_f c3 (h 0 (fun p hp => ?_))
          rw [b_0]
          by_cases c4 : cs_F R V op g c p < a
          · exact (cs_rg_l c4).symm
          · exact (cs_rg_h (cs_ltl (cs_nle c3) (cs_nlt c4))).symm
  · refine x_closed0 hg4 (by omega) (br_t rfl ?_)
    unfold wX_rangeMask_50
    refine br_t rfl ?_
    unfold wX_rangeMask_81
    refine br_t rfl ?_
    unfold wX_rangeMask_107
    exact br_t rfl L
end
end
section
/-! the rows that pass, and passMask -/
def cs_pc (rg rl rh f : Nat → Int32) : Nat → Bool
  | 0 => true
  | n + 1 => cs_pc rg rl rh f n && (decide (rg n = 0) || cs_rg (rl n) (rh n) (f n))
theorem cs_pc_ext {rg rl rh f f' : Nat → Int32} : ∀ n, (∀ c, c < n → f c = f' c) → cs_pc rg rl rh f n = cs_pc rg rl rh f' n := by
  intro n
  induction n with
  | zero => intro _; rfl
  | succ n ih =>
    intro h
    show (cs_pc rg rl rh f n && (decide (rg n = 0) || cs_rg (rl n) (rh n) (f n))) = (cs_pc rg rl rh f' n && (decide (rg n = 0) || cs_rg (rl n) (rh n) (f' n)))
    rw [ih (fun c hc => h c (by omega)), h n (by omega)]
def cs_P (R : Nat) (V A rg rl rh : Nat → Int32) (r : Nat) : Bool := decide (r < R) && (!decide (A r = 0) && cs_pc rg rl rh (fun c => V (3 * r + c)) 3)
def cs_Lv (R : Nat) (A lm : Nat → Int32) : Prop := ∀ g, g < 4 → ∀ i, i < 32 → bt (lm g) i = (decide (i < 16) && (decide (16 * g + i < R) && !decide (A (16 * g + i) = 0)))
def cs_Op (R : Nat) (V op : Nat → Int32) : Prop := ∀ c, c < 3 → ∀ p, p < 16 → 16 * (R / 16) + p < R → op (16 * c + p) = V (3 * (16 * (R / 16) + p) + c)
def cs_St (R : Nat) (V A op lm fo lo hg sz wo : Nat → Int32) : Prop := R ≤ 64 ∧ cs_Lv R A lm ∧ cs_Op R V op ∧ cs_Cl R V fo lo hg sz wo
theorem cs_P_R {R : Nat} {V A rg rl rh : Nat → Int32} {r : Nat} (h : R ≤ r) : cs_P R V A rg rl rh r = false := by
  unfold cs_P
  rw [decide_eq_false (p := r < R) (by omega), Bool.false_and]
theorem cs_P_lt {R : Nat} {V A rg rl rh : Nat → Int32} {r : Nat} (h : cs_P R V A rg rl rh r = true) : r < R := by
  rcases Nat.lt_or_ge r R with z | z
  · exact z
  · rw [cs_P_R z] at h
    exact absurd h (by decide)
theorem cs_F_V {R : Nat} {V op : Nat → Int32} (hO : cs_Op R V op) {g c p : Nat} (hc : c < 3) (hp : p < 16) (h : 16 * g + p < R) : cs_F R V op g c p = V (3 * (16 * g + p) + c) := by
  unfold cs_F
  by_cases z : 16 * g + 16 ≤ R
  · rw [if_pos z]
  · rw [if_neg z]
    have e : R / 16 = g := by omega
    have k := hO c hc p hp
    rw [e] at k
    exact k h
section
variable {vr vc : Int32} {op lm fo lo hg sz wo rg rl rh va : Nat → Int32}
theorem x_pm_9 {post : Int32 → Prop} {R : Nat} {V A : Nat → Int32} (hS : cs_St R V A op lm fo lo hg sz wo) (g : Nat) (hg4 : g < 4)
    (h : ∀ m, (∀ i, i < 32 → bt m i = (bt (lm g) i && cs_pc rg rl rh (fun c => cs_F R V op g c i) 3)) → post m) :
    ∀ d k m, k + d = 3 → (∀ i, i < 32 → bt m i = (bt (lm g) i && cs_pc rg rl rh (fun c => cs_F R V op g c i) k)) → wX_passMask_9 post (nI g) (nI R) vc op lm fo lo hg sz wo rg rl rh va (d + 1) m (nI k) := by
  obtain ⟨hR, hL, hO, hC⟩ := hS
  intro d
  induction d with
  | zero =>
    intro k m hd hm
    obtain rfl : k = 3 := by omega
    exact br_t (nI_le (a := 3) (b := 3) (by omega) (by decide)) (h m hm)
  | succ d ih =>
    intro k m hd hm
    have hi := vp_in_nI (show k < 3 by omega) (show 3 < 2 ^ 31 by omega)
    refine br_f (nI_ge (a := k) (b := 3) (by omega) (by decide)) (And.intro hi ?_)
    rw [nI_clamp (n := k) (by omega)]
    by_cases c1 : rg k = 0
    · refine br_t c1 (nm_r (nI_1 k) (ih (k + 1) m (by omega) ?_))
      intro i hi
      show bt m i = (bt (lm g) i && (cs_pc rg rl rh (fun c => cs_F R V op g c i) k && (decide (rg k = 0) || cs_rg (rl k) (rh k) (cs_F R V op g k i))))
      rw [hm i hi, decide_eq_true c1, Bool.true_or, Bool.and_true]
    · refine br_f c1 ?_
      by_cases c2 : m = 0
      · refine br_t c2 (nm_r (nI_1 k) (ih (k + 1) m (by omega) ?_))
        intro i hi
        show bt m i = (bt (lm g) i && (cs_pc rg rl rh (fun c => cs_F R V op g c i) k && (decide (rg k = 0) || cs_rg (rl k) (rh k) (cs_F R V op g k i))))
        rw [← Bool.and_assoc, ← hm i hi, c2, b_0, Bool.false_and]
      · refine br_f c2 (And.intro hi (And.intro hi (x_rangeMask hR hC g k (rl k) (rh k) hg4 (by omega) ?_)))
        intro m2 hm2
        refine nm_e (nm_r (nI_1 k) (ih (k + 1) _ (by omega) ?_))
        intro i hi
        show bt (m &&& m2) i = (bt (lm g) i && (cs_pc rg rl rh (fun c => cs_F R V op g c i) k && (decide (rg k = 0) || cs_rg (rl k) (rh k) (cs_F R V op g k i))))
        rw [b_and, hm i hi, decide_eq_false c1, Bool.false_or]
        rcases Nat.lt_or_ge i 16 with y | y
        · rw [hm2 i y, Bool.and_assoc]
        · rw [hL g hg4 i hi, decide_eq_false (p := i < 16) (by omega)]
          rfl
theorem x_passMask {post : Int32 → Prop} {R : Nat} {V A : Nat → Int32} (hS : cs_St R V A op lm fo lo hg sz wo) (g : Nat) (hg4 : g < 4)
    (h : ∀ m, (∀ i, i < 32 → bt m i = (decide (i < 16) && cs_P R V A rg rl rh (16 * g + i))) → post m) : wpX_passMask post (nI R, vc, op, lm, fo, lo, hg, sz, wo, rg, rl, rh, va) (nI g) := by
  obtain ⟨hR, hL, hO, hC⟩ := hS
  unfold wpX_passMask
  dsimp only
  rw [nI_clamp (n := g) (by omega)]
  refine And.intro (vp_in_nI (by omega) (by omega)) (nm_e (Exists.intro 4 (x_pm_9 ⟨hR, hL, hO, hC⟩ g hg4 ?_ 3 0 _ (by omega) ?_)))
  · intro m hm
    refine h m ?_
    intro i hi
    rw [hm i hi, hL g hg4 i hi]
    unfold cs_P
    by_cases y : i < 16 ∧ 16 * g + i < R
    · rw [cs_pc_ext 3 (f := fun c => cs_F R V op g c i) (f' := fun c => V (3 * (16 * g + i) + c)) (fun c hc => cs_F_V hO hc y.1 y.2), Bool.and_assoc, Bool.and_assoc]
    · by_cases y1 : i < 16
      · rw [decide_eq_false (p := 16 * g + i < R) (fun z => y ⟨y1, z⟩)]
        simp
      · rw [decide_eq_false y1]
        simp
  · intro i hi
    show bt (lm g) i = (bt (lm g) i && true)
    rw [Bool.and_true]
end
end
section
/-! sums, extremes, different values over the rows: pure -/
def cs_sm (P : Nat → Bool) (f : Nat → Int32) : Nat → Int64
  | 0 => 0
  | n + 1 => if P n = true then cs_sm P f n + (f n).toInt64 else cs_sm P f n
theorem cs_sm_t {P : Nat → Bool} {f : Nat → Int32} {n : Nat} (h : P n = true) : cs_sm P f (n + 1) = cs_sm P f n + (f n).toInt64 := if_pos h
theorem cs_sm_f {P : Nat → Bool} {f : Nat → Int32} {n : Nat} (h : P n = false) : cs_sm P f (n + 1) = cs_sm P f n := if_neg (by rw [h]; decide)
theorem cs_sm_add (P : Nat → Bool) (f : Nat → Int32) (a : Nat) : ∀ b, cs_sm P f (a + b) = cs_sm P f a + cs_sm (fun i => P (a + i)) (fun i => f (a + i)) b := by
  intro b
  induction b with
  | zero => exact (Int64.add_zero _).symm
  | succ b ih =>
    show cs_sm P f (a + b + 1) = _
    cases hp : P (a + b)
    · rw [cs_sm_f hp, cs_sm_f (P := fun i => P (a + i)) hp, ih]
    · rw [cs_sm_t hp, cs_sm_t (P := fun i => P (a + i)) hp, ih, Int64.add_assoc]
theorem cs_sm_ext {P Q : Nat → Bool} {f k : Nat → Int32} : ∀ n, (∀ i, i < n → P i = Q i ∧ (P i = true → f i = k i)) → cs_sm P f n = cs_sm Q k n := by
  intro n
  induction n with
  | zero => intro _; rfl
  | succ n ih =>
    intro h
    have e := ih (fun i hi => h i (by omega))
    obtain ⟨e1, e2⟩ := h n (by omega)
    cases hp : P n
    · rw [cs_sm_f hp, cs_sm_f (by rw [← e1, hp]), e]
    · rw [cs_sm_t hp, cs_sm_t (by rw [← e1, hp]), e, e2 hp]
theorem cs_sm_none {P : Nat → Bool} (f : Nat → Int32) : ∀ n, (∀ i, i < n → P i = false) → cs_sm P f n = 0 := by
  intro n
  induction n with
  | zero => intro _; rfl
  | succ n ih =>
    intro h
    rw [cs_sm_f (h n (by omega)), ih (fun i hi => h i (by omega))]
theorem cs_sm_stop {P : Nat → Bool} {f : Nat → Int32} {a b : Nat} (h : a ≤ b) (hz : ∀ i, a ≤ i → P i = false) : cs_sm P f b = cs_sm P f a := by
  obtain ⟨d, rfl⟩ : ∃ d, b = a + d := ⟨b - a, by omega⟩
  rw [cs_sm_add, cs_sm_none _ d (fun i _ => hz (a + i) (by omega)), Int64.add_zero]
theorem cs_sm_run {m : Nat → Bool} {ro : Nat → Nat} {f : Nat → Int32} {k : Nat} {v : Int32} : ∀ N, (∀ i, i < N → ro i = k → f i = v) → cs_sm (fun i => m i && decide (ro i < k + 1)) f N = cs_sm (fun i => m i && decide (ro i < k)) f N + lN (cs_cn (fun i => m i && decide (ro i = k)) N) * v.toInt64 := by
  intro N
  induction N with
  | zero =>
    intro _
    show (0 : Int64) = 0 + lN 0 * v.toInt64
    have e : lN 0 = 0 := rfl
    rw [e, Int64.zero_mul, Int64.add_zero]
  | succ N ih =>
    intro h
    have e := ih (fun i hi => h i (by omega))
    cases hm : m N
    · rw [cs_sm_f (P := fun i => m i && decide (ro i < k + 1)) (by rw [hm]; rfl), cs_sm_f (P := fun i => m i && decide (ro i < k)) (by rw [hm]; rfl), cs_cn_f (P := fun i => m i && decide (ro i = k)) (by rw [hm]; rfl), e]
    · rcases Nat.lt_trichotomy (ro N) k with z | z | z
      · rw [cs_sm_t (P := fun i => m i && decide (ro i < k + 1)) (by rw [hm, decide_eq_true (by omega)]; rfl), cs_sm_t (P := fun i => m i && decide (ro i < k)) (by rw [hm, decide_eq_true z]; rfl), cs_cn_f (P := fun i => m i && decide (ro i = k)) (by rw [hm, decide_eq_false (by omega)]; rfl), e, Int64.add_assoc, Int64.add_assoc, Int64.add_comm (f N).toInt64]
      · rw [cs_sm_t (P := fun i => m i && decide (ro i < k + 1)) (by rw [hm, decide_eq_true (by omega)]; rfl), cs_sm_f (P := fun i => m i && decide (ro i < k)) (by rw [hm, decide_eq_false (by omega)]; rfl), cs_cn_t (P := fun i => m i && decide (ro i = k)) (by rw [hm, decide_eq_true z]; rfl), e, h N (by omega) z, ← lN_1, Int64.add_mul, Int64.one_mul, Int64.add_assoc]
      · rw [cs_sm_f (P := fun i => m i && decide (ro i < k + 1)) (by rw [hm, decide_eq_false (by omega)]; rfl), cs_sm_f (P := fun i => m i && decide (ro i < k)) (by rw [hm, decide_eq_false (by omega)]; rfl), cs_cn_f (P := fun i => m i && decide (ro i = k)) (by rw [hm, decide_eq_false (by omega)]; rfl), e]
/-! extremes -/
def cs_bb (gr v best : Int32) : Bool := if gr = 0 then decide (v < best) else decide (best < v)
def cs_es (gr : Int32) (s : Bool × Int32) (v : Int32) : Bool × Int32 := if s.1 = false then (true, v) else if cs_bb gr v s.2 = true then (true, v) else s
def cs_ef (gr : Int32) (P : Nat → Bool) (f : Nat → Int32) (s : Bool × Int32) : Nat → Bool × Int32
  | 0 => s
  | n + 1 => if P n = true then cs_es gr (cs_ef gr P f s n) (f n) else cs_ef gr P f s n
theorem cs_ef_t {gr : Int32} {P : Nat → Bool} {f : Nat → Int32} {s : Bool × Int32} {n : Nat} (h : P n = true) : cs_ef gr P f s (n + 1) = cs_es gr (cs_ef gr P f s n) (f n) := if_pos h
theorem cs_ef_f {gr : Int32} {P : Nat → Bool} {f : Nat → Int32} {s : Bool × Int32} {n : Nat} (h : P n = false) : cs_ef gr P f s (n + 1) = cs_ef gr P f s n := if_neg (by rw [h]; decide)
theorem cs_ef_add (gr : Int32) (P : Nat → Bool) (f : Nat → Int32) (s : Bool × Int32) (a : Nat) : ∀ b, cs_ef gr P f s (a + b) = cs_ef gr (fun i => P (a + i)) (fun i => f (a + i)) (cs_ef gr P f s a) b := by
  intro b
  induction b with
  | zero => rfl
  | succ b ih =>
    show cs_ef gr P f s (a + b + 1) = _
    cases hp : P (a + b)
    · rw [cs_ef_f hp, cs_ef_f (P := fun i => P (a + i)) hp, ih]
    · rw [cs_ef_t hp, cs_ef_t (P := fun i => P (a + i)) hp, ih]
theorem cs_ef_ext {gr : Int32} {P Q : Nat → Bool} {f k : Nat → Int32} {s : Bool × Int32} : ∀ n, (∀ i, i < n → P i = Q i ∧ (P i = true → f i = k i)) → cs_ef gr P f s n = cs_ef gr Q k s n := by
  intro n
  induction n with
  | zero => intro _; rfl
  | succ n ih =>
    intro h
    have e := ih (fun i hi => h i (by omega))
    obtain ⟨e1, e2⟩ := h n (by omega)
    cases hp : P n
    · rw [cs_ef_f hp, cs_ef_f (by rw [← e1, hp]), e]
    · rw [cs_ef_t hp, cs_ef_t (by rw [← e1, hp]), e, e2 hp]
theorem cs_ef_skip {gr : Int32} {P : Nat → Bool} {f : Nat → Int32} {s : Bool × Int32} : ∀ n, (∀ i, i < n → P i = true → s.1 = true ∧ cs_bb gr (f i) s.2 = false) → cs_ef gr P f s n = s := by
  intro n
  induction n with
  | zero => intro _; rfl
  | succ n ih =>
    intro h
    have e := ih (fun i hi => h i (by omega))
    cases hp : P n
    · rw [cs_ef_f hp, e]
    · rw [cs_ef_t hp, e]
      obtain ⟨a, b⟩ := h n (by omega) hp
      unfold cs_es
      rw [if_neg (by rw [a]; decide), if_neg (by rw [b]; decide)]
theorem cs_ef_stop {gr : Int32} {P : Nat → Bool} {f : Nat → Int32} {s : Bool × Int32} {a b : Nat} (h : a ≤ b) (hz : ∀ i, a ≤ i → P i = false) : cs_ef gr P f s b = cs_ef gr P f s a := by
  obtain ⟨d, rfl⟩ : ∃ d, b = a + d := ⟨b - a, by omega⟩
  rw [cs_ef_add]
  exact cs_ef_skip d (fun i _ hp => absurd hp (by rw [hz (a + i) (by omega)]; decide))
/-! different values -/
def cs_sn (P : Nat → Bool) (f : Nat → Int32) (v : Int32) : Nat → Bool
  | 0 => false
  | n + 1 => cs_sn P f v n || (P n && decide (f n = v))
def cs_df (P : Nat → Bool) (f : Nat → Int32) : Nat → Nat
  | 0 => 0
  | n + 1 => if P n = true ∧ cs_sn P f (f n) n = false then cs_df P f n + 1 else cs_df P f n
theorem cs_df_f {P : Nat → Bool} {f : Nat → Int32} {n : Nat} (h : P n = false) : cs_df P f (n + 1) = cs_df P f n := if_neg (by rw [h]; simp)
theorem cs_df_s {P : Nat → Bool} {f : Nat → Int32} {n : Nat} (h : cs_sn P f (f n) n = true) : cs_df P f (n + 1) = cs_df P f n := if_neg (by rw [h]; simp)
theorem cs_df_n {P : Nat → Bool} {f : Nat → Int32} {n : Nat} (h : P n = true) (h2 : cs_sn P f (f n) n = false) : cs_df P f (n + 1) = cs_df P f n + 1 := if_pos ⟨h, h2⟩
theorem cs_df_le (P : Nat → Bool) (f : Nat → Int32) : ∀ n, cs_df P f n ≤ n := by
  intro n
  induction n with
  | zero => exact Nat.le_refl 0
  | succ n ih => unfold cs_df; split <;> omega
theorem cs_df_stop {P : Nat → Bool} {f : Nat → Int32} {a b : Nat} (h : a ≤ b) (hz : ∀ i, a ≤ i → P i = false) : cs_df P f b = cs_df P f a := by
  obtain ⟨d, rfl⟩ : ∃ d, b = a + d := ⟨b - a, by omega⟩
  induction d with
  | zero => rfl
  | succ d ih =>
    show cs_df P f (a + d + 1) = _
    rw [cs_df_f (hz (a + d) (by omega)), ih (by omega)]
theorem cs_sn_f {P : Nat → Bool} {f : Nat → Int32} {v : Int32} {n : Nat} (h : P n = false) : cs_sn P f v (n + 1) = cs_sn P f v n := by
  show (cs_sn P f v n || (P n && decide (f n = v))) = _
  rw [h, Bool.false_and, Bool.or_false]
theorem cs_sn_t {P : Nat → Bool} {f : Nat → Int32} {v : Int32} {n : Nat} (h : P n = true) : cs_sn P f v (n + 1) = true ↔ cs_sn P f v n = true ∨ v = f n := by
  show (cs_sn P f v n || (P n && decide (f n = v))) = true ↔ _
  rw [h, Bool.true_and, Bool.or_eq_true, decide_eq_true_eq]
  exact ⟨fun z => z.imp id Eq.symm, fun z => z.imp id Eq.symm⟩
end
section
/-! the component's questions against the pure pictures -/
theorem cs_mk16 {m : Int32} {P : Nat → Bool} {g : Nat} (hm : ∀ i, i < 32 → bt m i = (decide (i < 16) && P (16 * g + i))) {i : Nat} (hi : i < 16) : bt m i = P (16 * g + i) := by
  rw [hm i (by omega), decide_eq_true hi, Bool.true_and]
theorem cs_cnG {m : Int32} {P : Nat → Bool} {g : Nat} (hm : ∀ i, i < 32 → bt m i = (decide (i < 16) && P (16 * g + i))) {k : Nat} (hk : k ≤ 16) : cs_cn P (16 * g + k) = cs_cn P (16 * g) + cs_cn (bt m) k := by
  rw [cs_cn_add, cs_cn_ext k (P := bt m) (Q := fun i => P (16 * g + i)) (fun i hi => cs_mk16 hm (by omega))]
section
variable {vr vc : Int32} {op lm fo lo hg sz wo rg rl rh va : Nat → Int32}
/-! count -/
theorem x_cnt_4 {post : Int32 → Prop} {R : Nat} {V A : Nat → Int32} (hS : cs_St R V A op lm fo lo hg sz wo) (h : post (nI (cs_cn (cs_P R V A rg rl rh) R))) :
    ∀ d g, g + d = 4 → wX_count_4 post (nI R) vc op lm fo lo hg sz wo rg rl rh va (d + 1) (nI (cs_cn (cs_P R V A rg rl rh) (16 * g))) (nI g) := by
  have hR := hS.1
  have E : ∀ n g, R ≤ 16 * g → g ≤ 4 → wX_count_4 post (nI R) vc op lm fo lo hg sz wo rg rl rh va (n + 1) (nI (cs_cn (cs_P R V A rg rl rh) (16 * g))) (nI g) := by
    intro n g hle hg4
    rw [cs_cn_stop hle (fun i hi => cs_P_R hi)]
    refine br_t ?_ h
    rw [cs_16]
    exact nI_le hle (by omega)
  intro d
  induction d with
  | zero =>
    intro g hd
    exact E 0 g (by omega) (by omega)
  | succ d ih =>
    intro g hd
    rcases Nat.lt_or_ge (16 * g) R with z | z
    · refine br_f ?_ (x_passMask (V := V) (A := A) hS g (by omega) ?_)
      · rw [cs_16]
        exact nI_ge z (by omega)
      · intro m hm
        refine x_ones m (nm_r (e' := nI (cs_cn (cs_P R V A rg rl rh) (16 * (g + 1)))) ?_ (nm_r (nI_1 g) (ih (g + 1) (by omega))))
        rw [nI_add, ← cs_cnG hm (Nat.le_refl 16)]
        rfl
    · exact E _ g z (by omega)
theorem x_count {post : Int32 → Prop} {R : Nat} {V A : Nat → Int32} (hS : cs_St R V A op lm fo lo hg sz wo) (h : post (nI (cs_cn (cs_P R V A rg rl rh) R))) : wpX_count post (nI R, vc, op, lm, fo, lo, hg, sz, wo, rg, rl, rh, va) := Exists.intro 5 (x_cnt_4 hS h 4 0 rfl)
/-! live -/
theorem x_live_4 {post : Int32 → Prop} {R : Nat} {A : Nat → Int32} (hR : R ≤ 64) (hL : cs_Lv R A lm) (h : post (nI (cs_cn (fun r => decide (r < R) && !decide (A r = 0)) R))) :
    ∀ d g, g + d = 4 → wX_live_4 post vr vc op lm fo lo hg sz wo rg rl rh va (d + 1) (nI (cs_cn (fun r => decide (r < R) && !decide (A r = 0)) (16 * g))) (nI g) := by
  intro d
  induction d with
  | zero =>
    intro g hd
    obtain rfl : g = 4 := by omega
    refine br_t (nI_le (a := 4) (b := 4) (by omega) (by decide)) ?_
    rw [cs_cn_stop (a := R) (b := 16 * 4) (by omega) (fun i hi => by rw [decide_eq_false (p := i < R) (by omega), Bool.false_and])]
    exact h
  | succ d ih =>
    intro g hd
    have hm := hL g (by omega)
    refine br_f (nI_ge (a := g) (b := 4) (by omega) (by decide)) (And.intro (vp_in_nI (by omega) (by omega)) ?_)
    rw [nI_clamp (n := g) (by omega)]
    refine x_ones _ (nm_r (e' := nI (cs_cn (fun r => decide (r < R) && !decide (A r = 0)) (16 * (g + 1)))) ?_ (nm_r (nI_1 g) (ih (g + 1) (by omega))))
    rw [nI_add, ← cs_cnG (P := fun r => decide (r < R) && !decide (A r = 0)) hm (Nat.le_refl 16)]
    rfl
theorem x_live {post : Int32 → Prop} {R : Nat} {A : Nat → Int32} (hR : R ≤ 64) (hL : cs_Lv R A lm) (h : post (nI (cs_cn (fun r => decide (r < R) && !decide (A r = 0)) R))) : wpX_live post (vr, vc, op, lm, fo, lo, hg, sz, wo, rg, rl, rh, va) := Exists.intro 5 (x_live_4 hR hL h 4 0 rfl)
/-! passing -/
theorem x_pas_A {post : Int32 → Prop} {R : Nat} {V A : Nat → Int32} (hS : cs_St R V A op lm fo lo hg sz wo) {r idx : Nat} (hP : cs_P R V A rg rl rh r = true) (hc : cs_cn (cs_P R V A rg rl rh) r = idx) (h : post (nI r)) :
    ∀ d g rest, g + d = r / 16 → rest + cs_cn (cs_P R V A rg rl rh) (16 * g) = idx → wX_passing_10 post (nI R) vc op lm fo lo hg sz wo rg rl rh va (d + 1) (nI rest) (nI g) := by
  have hR := hS.1
  have hr := cs_P_lt hP
  have hle := cs_cn_le (cs_P R V A rg rl rh) r
  intro d
  induction d with
  | zero =>
    intro g rest hd hx
    refine br_f ?_ (x_passMask (V := V) (A := A) hS g (by omega) ?_)
    · rw [cs_16]
      exact nI_ge (by omega) (by omega)
    · intro m hm
      have e1 := cs_cnG hm (Nat.le_refl 16)
      have e2 := cs_cnG hm (k := r % 16) (by omega)
      have er : 16 * g + r % 16 = r := by omega
      rw [er] at e2
      have e3 := cs_cn_t hP
      have e4 := cs_cn_mn (cs_P R V A rg rl rh) (a := r + 1) (b := 16 * g + 16) (by omega)
      have l16 := cs_cn_le (bt m) 16
      refine x_ones m (br_f (nI_ge (a := rest) (b := cs_cn (bt m) 16) (by omega) (by omega)) (x_oneAt m (k := r % 16) (by omega) ?_ (by omega) ?_))
      · rw [cs_mk16 hm (by omega), er]
        exact hP
      · rw [cs_16, nI_add, er]
        exact h
  | succ d ih =>
    intro g rest hd hx
    refine br_f ?_ (x_passMask (V := V) (A := A) hS g (by omega) ?_)
    · rw [cs_16]
      exact nI_ge (by omega) (by omega)
    · intro m hm
      have e1 := cs_cnG hm (Nat.le_refl 16)
      have e4 := cs_cn_mn (cs_P R V A rg rl rh) (a := 16 * g + 16) (b := r) (by omega)
      refine x_ones m (br_t (nI_le (a := cs_cn (bt m) 16) (b := rest) (by omega) (by omega)) (nm_r (pk_sub (by omega)) (nm_r (nI_1 g) (ih (g + 1) _ (by omega) ?_))))
      rw [show 16 * (g + 1) = 16 * g + 16 by omega]
      omega
theorem x_pas_B {post : Int32 → Prop} {R : Nat} {V A : Nat → Int32} (hS : cs_St R V A op lm fo lo hg sz wo) {idx : Nat} (hi : idx < 2 ^ 31) (hc : cs_cn (cs_P R V A rg rl rh) R ≤ idx) (h : post (-1)) :
    ∀ d g rest, g + d = 4 → rest + cs_cn (cs_P R V A rg rl rh) (16 * g) = idx → wX_passing_10 post (nI R) vc op lm fo lo hg sz wo rg rl rh va (d + 1) (nI rest) (nI g) := by
  have hR := hS.1
  intro d
  induction d with
  | zero =>
    intro g rest hd hx
    refine br_t ?_ h
    rw [cs_16]
    exact nI_le (by omega) (by omega)
  | succ d ih =>
    intro g rest hd hx
    rcases Nat.lt_or_ge (16 * g) R with z | z
    · refine br_f ?_ (x_passMask (V := V) (A := A) hS g (by omega) ?_)
      · rw [cs_16]
        exact nI_ge z (by omega)
      · intro m hm
        have e1 := cs_cnG hm (Nat.le_refl 16)
        have e4 : cs_cn (cs_P R V A rg rl rh) (16 * g + 16) ≤ cs_cn (cs_P R V A rg rl rh) R := by
          rcases Nat.lt_or_ge (16 * g + 16) R with y | y
          · exact cs_cn_mn _ (by omega)
          · rw [cs_cn_stop y (fun i hi => cs_P_R hi)]
            exact Nat.le_refl _
        refine x_ones m (br_t (nI_le (a := cs_cn (bt m) 16) (b := rest) (by omega) (by omega)) (nm_r (pk_sub (by omega)) (nm_r (nI_1 g) (ih (g + 1) _ (by omega) ?_))))
        rw [show 16 * (g + 1) = 16 * g + 16 by omega]
        omega
    · refine br_t ?_ h
      rw [cs_16]
      exact nI_le z (by omega)
/-! sum -/
theorem x_sumOf_105 {post : Int64 → Prop} {R : Nat} {V A : Nat → Int32} (hS : cs_St R V A op lm fo lo hg sz wo) (g c : Nat) (m : Int32) (hg4 : g < 4) (hc : c < 3) (h : post (cs_sm (bt m) (cs_F R V op g c) 16)) :
    ∀ d k, k + d = 16 → wX_sumOf_105 post (nI g) (nI c) m (nI R) vc op lm fo lo hg sz wo rg rl rh va (d + 1) (cs_sm (bt m) (cs_F R V op g c) k) (nI k) := by
  intro d
  induction d with
  | zero =>
    intro k hd
    obtain rfl : k = 16 := by omega
    exact br_t (nI_le (a := 16) (b := 16) (by omega) (by decide)) h
  | succ d ih =>
    intro k hd
    have hn := ih (k + 1) (by omega)
    refine br_f (nI_ge (a := k) (b := 16) (by omega) (by decide)) ?_
    cases hz : bt m k
    · rw [cs_sm_f hz] at hn
      exact br_t ((cs_bz m k (by omega)).mpr hz) (nm_r (nI_1 k) hn)
    · rw [cs_sm_t hz] at hn
      exact br_f (cs_bz1 m k (by omega) hz) (x_valueIn hS.1 hS.2.2.2 g c k hg4 hc (by omega) (nm_e (nm_r (nI_1 k) hn)))
theorem x_sumOf_32 {post : Int64 → Prop} (q n : Nat) (ro : Nat → Nat) (f : Nat → Int32) (m : Int32) (hq : q < 12) (hn : n ≤ 16) (es : sz q = nI n) (h1 : ∀ p, p < 16 → ro p < n ∧ wo (34 * q + 2 * ro p) = f p) (h2 : ∀ m, m < n → ∀ p, p < 16 → bt (wo (34 * q + 2 * m + 1)) p = decide (ro p = m)) (h : post (cs_sm (bt m) f 16)) :
    ∀ d k, k + d = n → wX_sumOf_32 post m (nI q) vr vc op lm fo lo hg sz wo rg rl rh va (d + 1) (cs_sm (fun i => bt m i && decide (ro i < k)) f 16) (nI k) := by
  have ec : (nI q).toNatClampNeg = q := nI_clamp (by omega)
  have hi := vp_in_nI hq (show 12 < 2 ^ 31 by omega)
  intro d
  induction d with
  | zero =>
    intro k hd
    obtain rfl : k = n := by omega
    unfold wX_sumOf_32
    rw [ec, es]
    refine And.intro hi (br_t (nI_le (a := k) (b := k) (by omega) (by omega)) ?_)
    rw [cs_sm_ext (P := fun i => bt m i && decide (ro i < k)) (Q := bt m) (f := f) (k := f) 16 (fun i hi => ⟨by rw [decide_eq_true (h1 i hi).1, Bool.and_true], fun _ => rfl⟩)]
    exact h
  | succ d ih =>
    intro k hd
    have hw := ih (k + 1) (by omega)
    rw [cs_sm_run (v := wo (34 * q + 2 * k)) 16 (fun i hi he => by rw [← (h1 i hi).2, he])] at hw
    have l16 := cs_cn_le (fun i => bt m i && decide (ro i = k)) 16
    unfold wX_sumOf_32
    rw [cs_34, cs_2m, nI_add (34 * q) (2 * k), nI_1 (34 * q + 2 * k), nI_clamp (n := 34 * q + 2 * k) (by omega), nI_clamp (n := 34 * q + 2 * k + 1) (by omega), ec, es]
    refine And.intro hi (br_f (nI_ge (a := k) (b := n) (by omega) (by omega)) (And.intro (vp_in_nI (by omega) (by omega)) (x_ones _ (And.intro (vp_in_nI (by omega) (by omega)) (nm_r ?_ (nm_r (nI_1 k) hw))))))
    rw [cs_cn_ext 16 (P := bt (wo (34 * q + 2 * k + 1) &&& m)) (Q := fun i => bt m i && decide (ro i = k)) (fun i hi => by rw [b_and, h2 k (by omega) i hi, Bool.and_comm]), nI_l (by omega)]
theorem x_sumOf {post : Int64 → Prop} {R : Nat} {V A : Nat → Int32} (hS : cs_St R V A op lm fo lo hg sz wo) (g c : Nat) (m : Int32) (hg4 : g < 4) (hc : c < 3) (h : post (cs_sm (bt m) (cs_F R V op g c) 16)) : wpX_sumOf post (nI R, vc, op, lm, fo, lo, hg, sz, wo, rg, rl, rh, va) (nI g) (nI c) m := by
  have hq : 3 * g + c < 12 := by omega
  have hi := vp_in_nI hq (show 12 < 2 ^ 31 by omega)
  have ec : (nI (3 * g + c)).toNatClampNeg = 3 * g + c := nI_clamp (by omega)
  have eq : (3 : Int32) * nI g + nI c = nI (3 * g + c) := by rw [cs_3m, nI_add]
  have L : ∃ n, wX_sumOf_105 post (nI g) (nI c) m (nI R) vc op lm fo lo hg sz wo rg rl rh va n 0 0 := ⟨17, x_sumOf_105 hS g c m hg4 hc h 16 0 (by omega)⟩
  unfold wpX_sumOf
  dsimp only
  refine nm_r eq ?_
  by_cases hcl : 16 * g + 16 ≤ R
  · have hF : ∀ p, cs_F R V op g c p = V (3 * (16 * g + p) + c) := fun p => if_pos hcl
    obtain ⟨hB, hP⟩ := hS.2.2.2 g c hcl hc
    refine x_closed1 hS.1 hcl (br_f (by decide) (And.intro hi ?_))
    rw [ec]
    by_cases c1 : fo (3 * g + c) = 1
    · refine br_t c1 ?_
      rcases hP with ⟨ef, _⟩ | ⟨ef, _⟩ | ⟨ef, _⟩ | ⟨_, n, ro, hn, es, h1, h2⟩
      · exact absurd (ef.symm.trans c1) (by decide)
      · exact absurd (ef.symm.trans c1) (by decide)
      · exact absurd (ef.symm.trans c1) (by decide)
      · have k := x_sumOf_32 (post := post) (vr := nI R) (vc := vc) (op := op) (lm := lm) (fo := fo) (lo := lo) (hg := hg) (rg := rg) (rl := rl) (rh := rh) (va := va) (3 * g + c) n ro (fun p => V (3 * (16 * g + p) + c)) m hq hn es h1 h2 (by rw [show (fun p => V (3 * (16 * g + p) + c)) = cs_F R V op g c from funext (fun p => (hF p).symm)]; exact h) n 0 (by omega)
        rw [cs_sm_none _ 16 (fun i _ => by rw [decide_eq_false (p := ro i < 0) (by omega), Bool.and_false])] at k
        exact ⟨_, k⟩
    · exact br_f c1 L
  · exact x_closed0 hg4 (by omega) (br_t rfl L)
theorem cs_smG {R : Nat} {V A : Nat → Int32} (hO : cs_Op R V op) {m : Int32} {g c : Nat} (hc : c < 3) (hm : ∀ i, i < 32 → bt m i = (decide (i < 16) && cs_P R V A rg rl rh (16 * g + i))) : cs_sm (cs_P R V A rg rl rh) (fun r => V (3 * r + c)) (16 * (g + 1)) = cs_sm (cs_P R V A rg rl rh) (fun r => V (3 * r + c)) (16 * g) + cs_sm (bt m) (cs_F R V op g c) 16 := by
  rw [show 16 * (g + 1) = 16 * g + 16 by omega, cs_sm_add]
  congr 1
  refine cs_sm_ext 16 (fun i hi => ⟨(cs_mk16 hm hi).symm, fun hp => ?_⟩)
  exact (cs_F_V hO hc hi (cs_P_lt hp)).symm
theorem x_sum_14 {post : Int64 → Prop} {R : Nat} {V A : Nat → Int32} (hS : cs_St R V A op lm fo lo hg sz wo) (c : Nat) (hc : c < 3) (h : post (cs_sm (cs_P R V A rg rl rh) (fun r => V (3 * r + c)) R)) :
    ∀ d g, g + d = 4 → wX_sum_14 post (nI c) (nI R) vc op lm fo lo hg sz wo rg rl rh va (d + 1) (cs_sm (cs_P R V A rg rl rh) (fun r => V (3 * r + c)) (16 * g)) (nI g) := by
  have hR := hS.1
  have E : ∀ n g, R ≤ 16 * g → g ≤ 4 → wX_sum_14 post (nI c) (nI R) vc op lm fo lo hg sz wo rg rl rh va (n + 1) (cs_sm (cs_P R V A rg rl rh) (fun r => V (3 * r + c)) (16 * g)) (nI g) := by
    intro n g hle hg4
    rw [cs_sm_stop hle (fun i hi => cs_P_R hi)]
    refine br_t ?_ h
    rw [cs_16]
    exact nI_le hle (by omega)
  intro d
  induction d with
  | zero =>
    intro g hd
    exact E 0 g (by omega) (by omega)
  | succ d ih =>
    intro g hd
    rcases Nat.lt_or_ge (16 * g) R with z | z
    · refine br_f ?_ (x_passMask (V := V) (A := A) hS g (by omega) ?_)
      · rw [cs_16]
        exact nI_ge z (by omega)
      · intro m hm
        have k := ih (g + 1) (by omega)
        rw [cs_smG hS.2.2.1 hc hm] at k
        by_cases y : m = 0
        · refine br_t y (nm_r (nI_1 g) ?_)
          rw [cs_sm_none _ 16 (fun i _ => by rw [y, b_0]), Int64.add_zero] at k
          exact k
        · exact br_f y (x_sumOf hS g c m (by omega) hc (nm_e (nm_r (nI_1 g) k)))
    · exact E _ g z (by omega)
end
end
section
/-! extreme and different, the component's side -/
theorem cs_es_k {gr v best : Int32} (h : cs_bb gr v best = false) : cs_es gr (true, best) v = (true, best) := by
  unfold cs_es
  rw [if_neg (show ¬ true = false by decide), if_neg (by rw [h]; decide)]
theorem cs_es_n {gr v best : Int32} (h : cs_bb gr v best = true) : cs_es gr (true, best) v = (true, v) := by
  unfold cs_es
  rw [if_neg (show ¬ true = false by decide), if_pos h]
theorem cs_bb_0 {gr v best : Int32} (h : gr = 0) : cs_bb gr v best = decide (v < best) := if_pos h
theorem cs_bb_1 {gr v best : Int32} (h : ¬ gr = 0) : cs_bb gr v best = decide (best < v) := if_neg h
section
variable {vr vc : Int32} {op lm fo lo hg sz wo rg rl rh va : Nat → Int32}
theorem x_mayBeat {post : Int32 → Prop} {R : Nat} {V A : Nat → Int32} (hS : cs_St R V A op lm fo lo hg sz wo) (g c : Nat) (gr : Int32) (s : Bool × Int32) (hg4 : g < 4) (hc : c < 3) (h1 : post 1) (h0 : (∀ p, p < 16 → s.1 = true ∧ cs_bb gr (cs_F R V op g c p) s.2 = false) → post 0) :
    wpX_mayBeat post (nI R, vc, op, lm, fo, lo, hg, sz, wo, rg, rl, rh, va) (nI g) (nI c) gr (nI s.1.toNat) s.2 := by
  have hq : 3 * g + c < 12 := by omega
  have hi := vp_in_nI hq (show 12 < 2 ^ 31 by omega)
  have ec : (nI (3 * g + c)).toNatClampNeg = 3 * g + c := nI_clamp (by omega)
  have eq : (3 : Int32) * nI g + nI c = nI (3 * g + c) := by rw [cs_3m, nI_add]
  obtain ⟨s1, best⟩ := s
  unfold wpX_mayBeat
  dsimp only
  cases s1
  · exact br_t rfl h1
  · refine br_f (by decide) ?_
    by_cases hcl : 16 * g + 16 ≤ R
    · have hF : ∀ p, cs_F R V op g c p = V (3 * (16 * g + p) + c) := fun p => if_pos hcl
      obtain ⟨hB, _⟩ := hS.2.2.2 g c hcl hc
      refine x_closed1 hS.1 hcl (br_f (by decide) (nm_r eq ?_))
      rw [ec]
      by_cases c1 : gr = 0
      · refine br_t c1 (And.intro hi (br_c (fun c2 => h0 (fun p hp => ⟨rfl, ?_⟩)) (fun _ => h1)))
        rw [cs_bb_0 c1, hF]
        exact decide_eq_false (cs_lnl (Int32.le_trans c2 (hB p hp).1))
      · refine br_f c1 (And.intro hi (br_c (fun c2 => h0 (fun p hp => ⟨rfl, ?_⟩)) (fun _ => h1)))
        rw [cs_bb_1 c1, hF]
        exact decide_eq_false (cs_lnl (Int32.le_trans (hB p hp).2 c2))
    · exact x_closed0 hg4 (by omega) (br_t rfl h1)
theorem x_ex_58 {post : Int32 → Prop} {J : Int32 → Int32 → Int32 → Prop} {R : Nat} {V A : Nat → Int32} (hS : cs_St R V A op lm fo lo hg sz wo) (g c : Nat) (gr m : Int32) (s : Bool × Int32) (hg4 : g < 4) (hc : c < 3)
    (h : J (nI (cs_ef gr (bt m) (cs_F R V op g c) s 16).1.toNat) (cs_ef gr (bt m) (cs_F R V op g c) s 16).2 (nI (g + 1))) :
    ∀ d k, k + d = 16 → wX_extreme_58 post J (nI c) gr (nI g) m (nI R) vc op lm fo lo hg sz wo rg rl rh va (d + 1) (nI (cs_ef gr (bt m) (cs_F R V op g c) s k).1.toNat) (cs_ef gr (bt m) (cs_F R V op g c) s k).2 (nI k) := by
  intro d
  induction d with
  | zero =>
    intro k hd
    obtain rfl : k = 16 := by omega
    exact br_t (nI_le (a := 16) (b := 16) (by omega) (by decide)) (nm_r (nI_1 g) h)
  | succ d ih =>
    intro k hd
    have hn := ih (k + 1) (by omega)
    refine br_f (nI_ge (a := k) (b := 16) (by omega) (by decide)) ?_
    cases hz : bt m k
    · rw [cs_ef_f hz] at hn
      exact br_t ((cs_bz m k (by omega)).mpr hz) (nm_r (nI_1 k) hn)
    · rw [cs_ef_t hz] at hn
      refine br_f (cs_bz1 m k (by omega) hz) (x_valueIn hS.1 hS.2.2.2 g c k hg4 hc (by omega) ?_)
      clear ih h
      generalize cs_ef gr (bt m) (cs_F R V op g c) s k = s' at hn ⊢
      generalize cs_F R V op g c k = v at hn ⊢
      obtain ⟨s1, best⟩ := s'
      cases s1
      · exact br_t rfl (nm_r (nI_1 k) hn)
      · refine br_f (show ¬ nI (Bool.toNat true) = 0 by decide) ?_
        by_cases c1 : gr = 0
        · refine br_t c1 (br_c (fun c2 => nm_r (nI_1 k) ?_) (fun c2 => nm_r (nI_1 k) ?_))
          · rw [cs_es_k (by rw [cs_bb_0 c1]; exact decide_eq_false (cs_lnl c2))] at hn
            exact hn
          · rw [cs_es_n (by rw [cs_bb_0 c1]; exact decide_eq_true (cs_nle c2))] at hn
            exact hn
        · refine br_f c1 (br_c (fun c2 => nm_r (nI_1 k) ?_) (fun c2 => nm_r (nI_1 k) ?_))
          · rw [cs_es_k (by rw [cs_bb_1 c1]; exact decide_eq_false (cs_lnl c2))] at hn
            exact hn
          · rw [cs_es_n (by rw [cs_bb_1 c1]; exact decide_eq_true (cs_nle c2))] at hn
            exact hn
theorem x_ex_17 {post : Int32 → Prop} {R : Nat} {V A : Nat → Int32} (hS : cs_St R V A op lm fo lo hg sz wo) (c : Nat) (gr : Int32) (hc : c < 3) (h : post (cs_ef gr (cs_P R V A rg rl rh) (fun r => V (3 * r + c)) (false, 0) R).2) :
    ∀ d g, g + d = 4 → wX_extreme_17 post (nI c) gr (nI R) vc op lm fo lo hg sz wo rg rl rh va (d + 1) (nI (cs_ef gr (cs_P R V A rg rl rh) (fun r => V (3 * r + c)) (false, 0) (16 * g)).1.toNat) (cs_ef gr (cs_P R V A rg rl rh) (fun r => V (3 * r + c)) (false, 0) (16 * g)).2 (nI g) := by
  have hR := hS.1
  have E : ∀ n g, R ≤ 16 * g → g ≤ 4 → wX_extreme_17 post (nI c) gr (nI R) vc op lm fo lo hg sz wo rg rl rh va (n + 1) (nI (cs_ef gr (cs_P R V A rg rl rh) (fun r => V (3 * r + c)) (false, 0) (16 * g)).1.toNat) (cs_ef gr (cs_P R V A rg rl rh) (fun r => V (3 * r + c)) (false, 0) (16 * g)).2 (nI g) := by
    intro n g hle hg4
    rw [cs_ef_stop hle (fun i hi => cs_P_R hi)]
    refine br_t ?_ h
    rw [cs_16]
    exact nI_le hle (by omega)
  intro d
  induction d with
  | zero =>
    intro g hd
    exact E 0 g (by omega) (by omega)
  | succ d ih =>
    intro g hd
    rcases Nat.lt_or_ge (16 * g) R with z | z
    · have k := ih (g + 1) (by omega)
      have e := cs_ef_add gr (cs_P R V A rg rl rh) (fun r => V (3 * r + c)) (false, 0) (16 * g) 16
      rw [show 16 * (g + 1) = 16 * g + 16 by omega, e] at k
      refine br_f ?_ (x_mayBeat hS g c gr (cs_ef gr (cs_P R V A rg rl rh) (fun r => V (3 * r + c)) (false, 0) (16 * g)) (by omega) hc ?_ ?_)
      · rw [cs_16]
        exact nI_ge z (by omega)
      · refine br_f (by decide) (x_passMask (V := V) (A := A) hS g (by omega) ?_)
        intro m hm
        refine Exists.intro 17 (x_ex_58 hS g c gr m _ (by omega) hc ?_ 16 0 rfl)
        rw [cs_ef_ext (P := bt m) (Q := fun i => cs_P R V A rg rl rh (16 * g + i)) (f := cs_F R V op g c) (k := fun i => V (3 * (16 * g + i) + c)) 16 (fun i hi => ⟨cs_mk16 hm hi, fun hp => cs_F_V hS.2.2.1 hc hi (cs_P_lt (by rw [← cs_mk16 hm hi]; exact hp))⟩)]
        exact k
      · intro hsk
        refine br_t rfl (Exists.intro 17 (x_ex_58 hS g c gr 0 _ (by omega) hc ?_ 16 0 rfl))
        rw [cs_ef_skip (P := bt 0) 16 (fun i _ hp => absurd hp (by rw [b_0]; decide))]
        rw [cs_ef_skip (P := fun i => cs_P R V A rg rl rh (16 * g + i)) 16 (fun i hi hp => ⟨(hsk i hi).1, ?_⟩)] at k
        · exact k
        · show cs_bb gr (V (3 * (16 * g + i) + c)) _ = false
          rw [← cs_F_V hS.2.2.1 hc hi (cs_P_lt hp)]
          exact (hsk i hi).2
    · exact E _ g z (by omega)
/-! different -/
def cs_DI (P : Nat → Bool) (f va : Nat → Int32) (r : Nat) : Prop := cs_So va (cs_df P f r) ∧ ∀ x, cs_Me va (cs_df P f r) x ↔ cs_sn P f x r = true
theorem cs_DI_f {P : Nat → Bool} {f va : Nat → Int32} {r : Nat} (hp : P r = false) (h : cs_DI P f va r) : cs_DI P f va (r + 1) := by
  unfold cs_DI
  rw [cs_df_f hp]
  refine ⟨h.1, fun x => ?_⟩
  rw [cs_sn_f hp]
  exact h.2 x
theorem x_df_36 {post : Int32 → SX → Prop} {J : Int32 → Int32 → Int32 → (Nat → Int32) → (Nat → Int32) → (Nat → Int32) → (Nat → Int32) → (Nat → Int32) → (Nat → Int32) → (Nat → Int32) → (Nat → Int32) → (Nat → Int32) → (Nat → Int32) → (Nat → Int32) → Prop} {R : Nat} {V A : Nat → Int32} (hS : cs_St R V A op lm fo lo hg sz wo) (g c : Nat) (m : Int32) (hg4 : g < 4) (hc : c < 3) (hm : ∀ i, i < 32 → bt m i = (decide (i < 16) && cs_P R V A rg rl rh (16 * g + i)))
    (h : ∀ vn, cs_DI (cs_P R V A rg rl rh) (fun r => V (3 * r + c)) vn (16 * g + 16) → J (nI (g + 1)) (nI R) (nI (cs_df (cs_P R V A rg rl rh) (fun r => V (3 * r + c)) (16 * g + 16))) op lm fo lo hg sz wo rg rl rh vn) :
    ∀ d k vn, k + d = 16 → cs_DI (cs_P R V A rg rl rh) (fun r => V (3 * r + c)) vn (16 * g + k) → wX_different_36 post J (nI c) (nI g) m (d + 1) (nI k) (nI R) (nI (cs_df (cs_P R V A rg rl rh) (fun r => V (3 * r + c)) (16 * g + k))) op lm fo lo hg sz wo rg rl rh vn := by
  have hR := hS.1
  intro d
  induction d with
  | zero =>
    intro k vn hd hI
    obtain rfl : k = 16 := by omega
    exact br_t (nI_le (a := 16) (b := 16) (by omega) (by decide)) (nm_r (nI_1 g) (h vn hI))
  | succ d ih =>
    intro k vn hd hI
    have hb := cs_mk16 hm (i := k) (by omega)
    refine br_f (nI_ge (a := k) (b := 16) (by omega) (by decide)) ?_
    cases hz : cs_P R V A rg rl rh (16 * g + k)
    · rw [hz] at hb
      have hn := ih (k + 1) vn (by omega) (cs_DI_f hz hI)
      rw [show 16 * g + (k + 1) = 16 * g + k + 1 from rfl, cs_df_f hz] at hn
      exact br_t ((cs_bz m k (by omega)).mpr hb) (nm_r (nI_1 k) hn)
    · rw [hz] at hb
      have hr := cs_P_lt hz
      have hle := cs_df_le (cs_P R V A rg rl rh) (fun r => V (3 * r + c)) (16 * g + k)
      refine br_f (cs_bz1 m k (by omega) hb) (x_valueIn hS.1 hS.2.2.2 g c k hg4 hc (by omega) ?_)
      rw [cs_F_V hS.2.2.1 hc (by omega) hr]
      refine x_addValue _ _ (by omega) hI.1 ?_
      intro n vm h1 h2 h3 h4
      have en : n = cs_df (cs_P R V A rg rl rh) (fun r => V (3 * r + c)) (16 * g + k + 1) := by
        cases hs : cs_sn (cs_P R V A rg rl rh) (fun r => V (3 * r + c)) (V (3 * (16 * g + k) + c)) (16 * g + k)
        · rw [cs_df_n hz hs]
          refine h4 (fun z => ?_)
          rw [(hI.2 _).mp z] at hs
          exact absurd hs (by decide)
        · rw [cs_df_s hs]
          exact h3 ((hI.2 _).mpr hs)
      refine nm_r (nI_1 k) ?_
      rw [en] at h1 h2 ⊢
      refine ih (k + 1) vm (by omega) ⟨h1, fun x => ?_⟩
      rw [show 16 * g + (k + 1) = 16 * g + k + 1 from rfl, cs_sn_t hz, ← hI.2 x]
      exact h2 x
theorem x_df_16 {post : Int32 → SX → Prop} {R : Nat} {V A : Nat → Int32} (hS : cs_St R V A op lm fo lo hg sz wo) (c : Nat) (hc : c < 3) (h : ∀ vn, post (nI (cs_df (cs_P R V A rg rl rh) (fun r => V (3 * r + c)) R)) (nI R, nI (cs_df (cs_P R V A rg rl rh) (fun r => V (3 * r + c)) R), op, lm, fo, lo, hg, sz, wo, rg, rl, rh, vn)) :
    ∀ d g vn, g + d = 4 → cs_DI (cs_P R V A rg rl rh) (fun r => V (3 * r + c)) vn (16 * g) → wX_different_16 post (nI c) (d + 1) (nI g) (nI R) (nI (cs_df (cs_P R V A rg rl rh) (fun r => V (3 * r + c)) (16 * g))) op lm fo lo hg sz wo rg rl rh vn := by
  have hR := hS.1
  have E : ∀ n g vn, R ≤ 16 * g → g ≤ 4 → wX_different_16 post (nI c) (n + 1) (nI g) (nI R) (nI (cs_df (cs_P R V A rg rl rh) (fun r => V (3 * r + c)) (16 * g))) op lm fo lo hg sz wo rg rl rh vn := by
    intro n g vn hle hg4
    rw [cs_df_stop hle (fun i hi => cs_P_R hi)]
    refine br_t ?_ (h vn)
    rw [cs_16]
    exact nI_le hle (by omega)
  intro d
  induction d with
  | zero =>
    intro g vn hd hI
    exact E 0 g vn (by omega) (by omega)
  | succ d ih =>
    intro g vn hd hI
    rcases Nat.lt_or_ge (16 * g) R with z | z
    · refine br_f ?_ (x_passMask (V := V) (A := A) hS g (by omega) ?_)
      · rw [cs_16]
        exact nI_ge z (by omega)
      · intro m hm
        exact Exists.intro 17 (x_df_36 hS g c m (by omega) hc hm (fun vm hv => ih (g + 1) vm (by omega) hv) 16 0 vn (by omega) hI)
    · exact E _ g vn z (by omega)
end
end
section
/-! the reference's questions against the pure pictures -/
theorem cs_pc_m {rg rl rh f : Nat → Int32} {k : Nat} (h : cs_pc rg rl rh f k = false) : ∀ d, cs_pc rg rl rh f (k + d) = false := by
  intro d
  induction d with
  | zero => exact h
  | succ d ih =>
    show (cs_pc rg rl rh f (k + d) && _) = false
    rw [ih, Bool.false_and]
theorem cs_sn_m {P : Nat → Bool} {f : Nat → Int32} {v : Int32} {k : Nat} (h : cs_sn P f v k = true) : ∀ d, cs_sn P f v (k + d) = true := by
  intro d
  induction d with
  | zero => exact h
  | succ d ih =>
    show (cs_sn P f v (k + d) || _) = true
    rw [ih, Bool.true_or]
section
variable {R : Nat} {V A rg rl rh : Nat → Int32}
theorem y_pas_13 {post : Int32 → Prop} (r : Nat) (hr : r < 64) (h1 : cs_pc rg rl rh (fun c => V (3 * r + c)) 3 = true → post 1) (h0 : cs_pc rg rl rh (fun c => V (3 * r + c)) 3 = false → post 0) :
    ∀ d k, k + d = 3 → cs_pc rg rl rh (fun c => V (3 * r + c)) k = true → wY_passes_13 post (nI r) (nI R) V A rg rl rh (d + 1) (nI k) := by
  intro d
  induction d with
  | zero =>
    intro k hd hk
    obtain rfl : k = 3 := by omega
    exact br_t (nI_le (a := 3) (b := 3) (by omega) (by decide)) (h1 hk)
  | succ d ih =>
    intro k hd hk
    have hi := vp_in_nI (show k < 3 by omega) (show 3 < 2 ^ 31 by omega)
    have es : cs_pc rg rl rh (fun c => V (3 * r + c)) (k + 1) = (cs_pc rg rl rh (fun c => V (3 * r + c)) k && (decide (rg k = 0) || cs_rg (rl k) (rh k) (V (3 * r + k)))) := rfl
    rw [hk, Bool.true_and] at es
    have F : ¬ rg k = 0 → cs_rg (rl k) (rh k) (V (3 * r + k)) = false → post 0 := by
      intro z1 z2
      rw [decide_eq_false z1, z2] at es
      have q := cs_pc_m es (3 - (k + 1))
      rw [show k + 1 + (3 - (k + 1)) = 3 by omega] at q
      exact h0 q
    refine br_f (nI_ge (a := k) (b := 3) (by omega) (by decide)) ?_
    rw [cs_3m, nI_add (3 * r) k, nI_clamp (n := 3 * r + k) (by omega), nI_clamp (n := k) (by omega)]
    refine And.intro (vp_in_nI (by omega) (by omega)) (nm_e (And.intro hi ?_))
    by_cases c1 : rg k = 0
    · refine br_t c1 (nm_r (nI_1 k) (ih (k + 1) (by omega) ?_))
      rw [es, decide_eq_true c1, Bool.true_or]
    · refine br_f c1 (And.intro hi ?_)
      by_cases c2 : V (3 * r + k) < rl k
      · exact br_t c2 (F c1 (cs_rg_l c2))
      · refine br_f c2 (And.intro hi ?_)
        by_cases c3 : V (3 * r + k) ≤ rh k
        · refine br_t c3 (nm_r (nI_1 k) (ih (k + 1) (by omega) ?_))
          rw [es, cs_rg_t c2 (cs_lnl c3), Bool.or_true]
        · exact br_f c3 (F c1 (cs_rg_h (cs_nle c3)))
theorem y_passes {post : Int32 → Prop} (hR : R ≤ 64) (r : Nat) (hr : r < R) (h : post (nI (cs_P R V A rg rl rh r).toNat)) : wpY_passes post (nI R, V, A, rg, rl, rh) (nI r) := by
  have e : cs_P R V A rg rl rh r = (decide (r < R) && (!decide (A r = 0) && cs_pc rg rl rh (fun c => V (3 * r + c)) 3)) := rfl
  rw [decide_eq_true hr, Bool.true_and] at e
  unfold wpY_passes
  dsimp only
  rw [nI_clamp (n := r) (by omega)]
  refine And.intro (vp_in_nI (by omega) (by omega)) ?_
  by_cases c : A r = 0
  · rw [decide_eq_true c] at e
    rw [e] at h
    exact br_t c h
  · rw [decide_eq_false c] at e
    refine br_f c (Exists.intro 4 (y_pas_13 r (by omega) ?_ ?_ 3 0 (by omega) rfl))
    · intro z
      rw [e, z] at h
      exact h
    · intro z
      rw [e, z] at h
      exact h
theorem y_pas2 {post : Int32 → Prop} (hR : R ≤ 64) (r : Nat) (hr : r < R) (h1 : cs_P R V A rg rl rh r = true → post 1) (h0 : cs_P R V A rg rl rh r = false → post 0) : wpY_passes post (nI R, V, A, rg, rl, rh) (nI r) := by
  refine y_passes hR r hr ?_
  cases z : cs_P R V A rg rl rh r
  · exact h0 z
  · exact h1 z
theorem y_cnt_4 {post : Int32 → Prop} (hR : R ≤ 64) (h : post (nI (cs_cn (cs_P R V A rg rl rh) R))) : ∀ d r, r + d = R → wY_count_4 post (nI R) V A rg rl rh (d + 1) (nI (cs_cn (cs_P R V A rg rl rh) r)) (nI r) := by
  intro d
  induction d with
  | zero =>
    intro r hd
    obtain rfl : r = R := by omega
    exact br_t (nI_le (a := r) (b := r) (by omega) (by omega)) h
  | succ d ih =>
    intro r hd
    have k := ih (r + 1) (by omega)
    refine br_f (nI_ge (a := r) (b := R) (by omega) (by omega)) (y_pas2 hR r (by omega) (fun z => ?_) (fun z => ?_))
    · rw [cs_cn_t z] at k
      exact br_f (by decide) (nm_r (nI_1 _) (nm_r (nI_1 r) k))
    · rw [cs_cn_f z] at k
      exact br_t rfl (nm_r (nI_1 r) k)
theorem y_count {post : Int32 → Prop} (hR : R ≤ 64) (h : post (nI (cs_cn (cs_P R V A rg rl rh) R))) : wpY_count post (nI R, V, A, rg, rl, rh) := Exists.intro (R + 1) (y_cnt_4 hR h R 0 (by omega))
theorem y_live_4 {post : Int32 → Prop} (hR : R ≤ 64) (h : post (nI (cs_cn (fun r => decide (r < R) && !decide (A r = 0)) R))) : ∀ d r, r + d = R → wY_live_4 post (nI R) V A rg rl rh (d + 1) (nI (cs_cn (fun r => decide (r < R) && !decide (A r = 0)) r)) (nI r) := by
  intro d
  induction d with
  | zero =>
    intro r hd
    obtain rfl : r = R := by omega
    exact br_t (nI_le (a := r) (b := r) (by omega) (by omega)) h
  | succ d ih =>
    intro r hd
    have k := ih (r + 1) (by omega)
    refine br_f (nI_ge (a := r) (b := R) (by omega) (by omega)) (And.intro (vp_in_nI (by omega) (by omega)) ?_)
    rw [nI_clamp (n := r) (by omega)]
    by_cases c : A r = 0
    · rw [cs_cn_f (by rw [decide_eq_true c]; simp)] at k
      exact br_t c (nm_r (nI_1 r) k)
    · rw [cs_cn_t (by rw [decide_eq_false c, decide_eq_true (by omega)]; rfl)] at k
      exact br_f c (nm_r (nI_1 _) (nm_r (nI_1 r) k))
theorem y_live {post : Int32 → Prop} (hR : R ≤ 64) (h : post (nI (cs_cn (fun r => decide (r < R) && !decide (A r = 0)) R))) : wpY_live post (nI R, V, A, rg, rl, rh) := Exists.intro (R + 1) (y_live_4 hR h R 0 (by omega))
theorem y_sum_14 {post : Int64 → Prop} (hR : R ≤ 64) (c : Nat) (hc : c < 3) (h : post (cs_sm (cs_P R V A rg rl rh) (fun r => V (3 * r + c)) R)) : ∀ d r, r + d = R → wY_sum_14 post (nI c) (nI R) V A rg rl rh (d + 1) (cs_sm (cs_P R V A rg rl rh) (fun r => V (3 * r + c)) r) (nI r) := by
  intro d
  induction d with
  | zero =>
    intro r hd
    obtain rfl : r = R := by omega
    exact br_t (nI_le (a := r) (b := r) (by omega) (by omega)) h
  | succ d ih =>
    intro r hd
    have k := ih (r + 1) (by omega)
    refine br_f (nI_ge (a := r) (b := R) (by omega) (by omega)) (y_pas2 hR r (by omega) (fun z => ?_) (fun z => ?_))
    · rw [cs_sm_t z] at k
      rw [cs_3m, nI_add (3 * r) c, nI_clamp (n := 3 * r + c) (by omega)]
      exact br_f (by decide) (And.intro (vp_in_nI (by omega) (by omega)) (nm_e (nm_r (nI_1 r) k)))
    · rw [cs_sm_f z] at k
      exact br_t rfl (nm_r (nI_1 r) k)
theorem y_ex_17 {post : Int32 → Prop} (hR : R ≤ 64) (c : Nat) (gr : Int32) (hc : c < 3) (h : post (cs_ef gr (cs_P R V A rg rl rh) (fun r => V (3 * r + c)) (false, 0) R).2) :
    ∀ d r, r + d = R → wY_extreme_17 post (nI c) gr (nI R) V A rg rl rh (d + 1) (nI (cs_ef gr (cs_P R V A rg rl rh) (fun r => V (3 * r + c)) (false, 0) r).1.toNat) (cs_ef gr (cs_P R V A rg rl rh) (fun r => V (3 * r + c)) (false, 0) r).2 (nI r) := by
  intro d
  induction d with
  | zero =>
    intro r hd
    obtain rfl : r = R := by omega
    exact br_t (nI_le (a := r) (b := r) (by omega) (by omega)) h
  | succ d ih =>
    intro r hd
    have hn := ih (r + 1) (by omega)
    refine br_f (nI_ge (a := r) (b := R) (by omega) (by omega)) ?_
    rw [cs_3m, nI_add (3 * r) c, nI_clamp (n := 3 * r + c) (by omega)]
    refine And.intro (vp_in_nI (by omega) (by omega)) (nm_e (y_pas2 hR r (by omega) (fun z => ?_) (fun z => ?_)))
    · rw [cs_ef_t z] at hn
      refine br_f (by decide) ?_
      clear ih h
      generalize cs_ef gr (cs_P R V A rg rl rh) (fun r => V (3 * r + c)) (false, 0) r = s' at hn ⊢
      generalize V (3 * r + c) = v at hn ⊢
      obtain ⟨s1, best⟩ := s'
      cases s1
      · exact br_t rfl (nm_r (nI_1 r) hn)
      · refine br_f (show ¬ nI (Bool.toNat true) = 0 by decide) ?_
        by_cases c1 : gr = 0
        · refine br_t c1 (br_c (fun c2 => nm_r (nI_1 r) ?_) (fun c2 => nm_r (nI_1 r) ?_))
          · rw [cs_es_k (by rw [cs_bb_0 c1]; exact decide_eq_false (cs_lnl c2))] at hn
            exact hn
          · rw [cs_es_n (by rw [cs_bb_0 c1]; exact decide_eq_true (cs_nle c2))] at hn
            exact hn
        · refine br_f c1 (br_c (fun c2 => nm_r (nI_1 r) ?_) (fun c2 => nm_r (nI_1 r) ?_))
          · rw [cs_es_k (by rw [cs_bb_1 c1]; exact decide_eq_false (cs_lnl c2))] at hn
            exact hn
          · rw [cs_es_n (by rw [cs_bb_1 c1]; exact decide_eq_true (cs_nle c2))] at hn
            exact hn
    · rw [cs_ef_f z] at hn
      exact br_t rfl (nm_r (nI_1 r) hn)
/-! passing: the row of that place, or none -/
theorem y_psg_A {post : Int32 → Prop} (hR : R ≤ 64) {q idx : Nat} (hP : cs_P R V A rg rl rh q = true) (hc : cs_cn (cs_P R V A rg rl rh) q = idx) (h : post (nI q)) :
    ∀ d r, r + d = q → wY_passing_4 post (nI idx) (nI R) V A rg rl rh (d + 1) (nI (cs_cn (cs_P R V A rg rl rh) r)) (nI r) := by
  have hq := cs_P_lt hP
  have hle := cs_cn_le (cs_P R V A rg rl rh) q
  intro d
  induction d with
  | zero =>
    intro r hd
    obtain rfl : r = q := by omega
    refine br_f (nI_ge (a := r) (b := R) (by omega) (by omega)) (y_pas2 hR r (by omega) (fun z => ?_) (fun z => ?_))
    · exact br_f (by decide) (br_t (congrArg nI hc) h)
    · rw [hP] at z
      exact absurd z (by decide)
  | succ d ih =>
    intro r hd
    have k := ih (r + 1) (by omega)
    refine br_f (nI_ge (a := r) (b := R) (by omega) (by omega)) (y_pas2 hR r (by omega) (fun z => ?_) (fun z => ?_))
    · have e := cs_cn_t z
      have m := cs_cn_mn (cs_P R V A rg rl rh) (a := r + 1) (b := q) (by omega)
      rw [e] at k
      refine br_f (by decide) (br_f ?_ (nm_r (nI_1 _) (nm_r (nI_1 r) k)))
      rw [nI_eq (by omega) (by omega)]
      omega
    · rw [cs_cn_f z] at k
      exact br_t rfl (nm_r (nI_1 r) k)
theorem y_psg_B {post : Int32 → Prop} (hR : R ≤ 64) (x : Int32) (hx : ∀ n, n < cs_cn (cs_P R V A rg rl rh) R → nI n ≠ x) (h : post (-1)) :
    ∀ d r, r + d = R → wY_passing_4 post x (nI R) V A rg rl rh (d + 1) (nI (cs_cn (cs_P R V A rg rl rh) r)) (nI r) := by
  intro d
  induction d with
  | zero =>
    intro r hd
    obtain rfl : r = R := by omega
    exact br_t (nI_le (a := r) (b := r) (by omega) (by omega)) h
  | succ d ih =>
    intro r hd
    have k := ih (r + 1) (by omega)
    refine br_f (nI_ge (a := r) (b := R) (by omega) (by omega)) (y_pas2 hR r (by omega) (fun z => ?_) (fun z => ?_))
    · have e := cs_cn_t z
      have m := cs_cn_mn (cs_P R V A rg rl rh) (a := r + 1) (b := R) (by omega)
      rw [e] at k
      exact br_f (by decide) (br_f (hx _ (by omega)) (nm_r (nI_1 _) (nm_r (nI_1 r) k)))
    · rw [cs_cn_f z] at k
      exact br_t rfl (nm_r (nI_1 r) k)
/-! different -/
theorem y_seen_2 {post : Int32 → Prop} (hR : R ≤ 64) (c q : Nat) (hc : c < 3) (hq : q < R) (h1 : cs_sn (cs_P R V A rg rl rh) (fun r => V (3 * r + c)) (V (3 * q + c)) q = true → post 1) (h0 : cs_sn (cs_P R V A rg rl rh) (fun r => V (3 * r + c)) (V (3 * q + c)) q = false → post 0) :
    ∀ d r, r + d = q → cs_sn (cs_P R V A rg rl rh) (fun r => V (3 * r + c)) (V (3 * q + c)) r = false → wY_seen_2 post (nI q) (nI c) (nI R) V A rg rl rh (d + 1) (nI r) := by
  intro d
  induction d with
  | zero =>
    intro r hd hs
    obtain rfl : r = q := by omega
    exact br_t (nI_le (a := r) (b := r) (by omega) (by omega)) (h0 hs)
  | succ d ih =>
    intro r hd hs
    refine br_f (nI_ge (a := r) (b := q) (by omega) (by omega)) (y_pas2 hR r (by omega) (fun z => ?_) (fun z => ?_))
    · refine br_f (by decide) ?_
      rw [cs_3m, cs_3m, nI_add (3 * r) c, nI_add (3 * q) c, nI_clamp (n := 3 * r + c) (by omega), nI_clamp (n := 3 * q + c) (by omega)]
      refine And.intro (vp_in_nI (by omega) (by omega)) (And.intro (vp_in_nI (by omega) (by omega)) ?_)
      have es : cs_sn (cs_P R V A rg rl rh) (fun r => V (3 * r + c)) (V (3 * q + c)) (r + 1) = (cs_sn (cs_P R V A rg rl rh) (fun r => V (3 * r + c)) (V (3 * q + c)) r || (cs_P R V A rg rl rh r && decide (V (3 * r + c) = V (3 * q + c)))) := rfl
      rw [hs, z, Bool.false_or, Bool.true_and] at es
      by_cases y : V (3 * r + c) = V (3 * q + c)
      · rw [decide_eq_true y] at es
        have k := cs_sn_m es (q - (r + 1))
        rw [show r + 1 + (q - (r + 1)) = q by omega] at k
        exact br_t y (h1 k)
      · rw [decide_eq_false y] at es
        exact br_f y (nm_r (nI_1 r) (ih (r + 1) (by omega) es))
    · exact br_t rfl (nm_r (nI_1 r) (ih (r + 1) (by omega) (by rw [cs_sn_f z]; exact hs)))
theorem y_df_13 {post : Int32 → Prop} (hR : R ≤ 64) (c : Nat) (hc : c < 3) (h : post (nI (cs_df (cs_P R V A rg rl rh) (fun r => V (3 * r + c)) R))) :
    ∀ d r, r + d = R → wY_different_13 post (nI c) (nI R) V A rg rl rh (d + 1) (nI (cs_df (cs_P R V A rg rl rh) (fun r => V (3 * r + c)) r)) (nI r) := by
  intro d
  induction d with
  | zero =>
    intro r hd
    obtain rfl : r = R := by omega
    exact br_t (nI_le (a := r) (b := r) (by omega) (by omega)) h
  | succ d ih =>
    intro r hd
    have k := ih (r + 1) (by omega)
    refine br_f (nI_ge (a := r) (b := R) (by omega) (by omega)) (y_pas2 hR r (by omega) (fun z => ?_) (fun z => ?_))
    · refine br_f (by decide) (Exists.intro (r + 1) (y_seen_2 hR c r hc (by omega) (fun y => ?_) (fun y => ?_) r 0 (by omega) rfl))
      · rw [cs_df_s (f := fun r => V (3 * r + c)) y] at k
        exact br_f (by decide) (nm_r (nI_1 r) k)
      · rw [cs_df_n (f := fun r => V (3 * r + c)) z y] at k
        exact br_t rfl (nm_r (nI_1 _) (nm_r (nI_1 r) k))
    · rw [cs_df_f z] at k
      exact br_t rfl (nm_r (nI_1 r) k)
end
end
section
/-! append and strike on the state -/
theorem cs_Part_fr {fo lo hg sz wo fn ln hn sn wn f k : Nat → Int32} {q : Nat} (e1 : fn q = fo q) (e2 : ln q = lo q) (e3 : hn q = hg q) (e4 : sn q = sz q) (e5 : ∀ j, 34 * q ≤ j → j < 34 * q + 34 → wn j = wo j) (e6 : ∀ p, p < 16 → k p = f p) (h : cs_Part fo lo hg sz wo q f) : cs_Part fn ln hn sn wn q k := by
  obtain ⟨hB, hP⟩ := h
  refine ⟨fun p hp => ?_, ?_⟩
  · rw [e2, e3, e6 p hp]
    exact hB p hp
  · unfold cs_Body
    rw [e1, e2, e4]
    rcases hP with ⟨ef, hb⟩ | ⟨ef, w, hw, es, hb⟩ | ⟨ef, n, hn1, hn, es, hs, hb⟩ | ⟨ef, n, ro, hn, es, h1, h2⟩
    · refine Or.inl ⟨ef, fun p hp => ?_⟩
      rw [e5 _ (by omega) (by omega), e6 p hp]
      exact hb p hp
    · refine Or.inr (Or.inl ⟨ef, w, hw, es, fun p hp j hj => ?_⟩)
      rw [e6 p hp, hb p hp j hj]
      rcases Nat.lt_or_ge j w with z | z
      · have m := Nat.mul_le_mul_left w (show p + 1 ≤ 16 by omega)
        rw [Nat.mul_add] at m
        unfold cs_bs
        rw [e5 (34 * q + (w * p + j) / 32) (by omega) (by omega)]
      · rw [decide_eq_false (p := j < w) (by omega), Bool.false_and, Bool.false_and]
    · refine Or.inr (Or.inr (Or.inl ⟨ef, n, hn1, hn, es, fun i j hij hj => ?_, fun p hp => ?_⟩))
      · show wn (34 * q + i) < wn (34 * q + j)
        rw [e5 (34 * q + i) (by omega) (by omega), e5 (34 * q + j) (by omega) (by omega)]
        exact hs i j hij hj
      · obtain ⟨i, hin, hiv, hib⟩ := hb p hp
        refine ⟨i, hin, ?_, fun j hj => ?_⟩
        · rw [e5 (34 * q + i) (by omega) (by omega), e6 p hp]
          exact hiv
        · rw [hib j hj]
          have h4 := cs_bF16 (n - 1) (by omega)
          generalize cs_bF (nI (n - 1)) 32 = w at *
          rcases Nat.lt_or_ge j w with z | z
          · have m := Nat.mul_le_mul_left w (show p + 1 ≤ 16 by omega)
            rw [Nat.mul_add] at m
            unfold cs_bs
            rw [e5 (34 * q + n + (w * p + j) / 32) (by omega) (by omega)]
          · rw [decide_eq_false (p := j < w) (by omega), Bool.false_and, Bool.false_and]
    · refine Or.inr (Or.inr (Or.inr ⟨ef, n, ro, hn, es, fun p hp => ⟨(h1 p hp).1, ?_⟩, fun m hm p hp => ?_⟩))
      · have := (h1 p hp).1
        rw [e5 (34 * q + 2 * ro p) (by omega) (by omega), e6 p hp]
        exact (h1 p hp).2
      · rw [e5 (34 * q + 2 * m + 1) (by omega) (by omega)]
        exact h2 m hm p hp
def cs_CQ (n : Nat) (V fo lo hg sz wo : Nat → Int32) : Prop := ∀ q, q < n → cs_Part fo lo hg sz wo q (fun p => V (3 * (16 * (q / 3) + p) + q % 3))
theorem cs_CQ_of {R : Nat} {V fo lo hg sz wo : Nat → Int32} (h : cs_Cl R V fo lo hg sz wo) : cs_CQ (3 * (R / 16)) V fo lo hg sz wo := by
  intro q hq
  have k := h (q / 3) (q % 3) (by omega) (by omega)
  rw [show 3 * (q / 3) + q % 3 = q by omega] at k
  exact k
theorem cs_Cl_of {R : Nat} {V fo lo hg sz wo : Nat → Int32} (h : cs_CQ (3 * (R / 16)) V fo lo hg sz wo) : cs_Cl R V fo lo hg sz wo := by
  intro g c hg4 hc
  have k := h (3 * g + c) (by omega)
  rw [show (3 * g + c) / 3 = g by omega, show (3 * g + c) % 3 = c by omega] at k
  exact k
theorem cs_Lv_a {R : Nat} {A lm : Nat → Int32} (hR : R < 64) (h : cs_Lv R A lm) : cs_Lv (R + 1) (upd A R 1) (upd lm (R / 16) (lm (R / 16) ||| ((1 : Int32) <<< (nI (R % 16) &&& 31)))) := by
  intro g hg4 i hi
  have hL := h g hg4 i hi
  by_cases e : i < 16 ∧ 16 * g + i = R
  · obtain ⟨e0, e1⟩ := e
    rw [show g = R / 16 by omega, pk_us, b_or, cs_sh1 _ (by omega) hi, decide_eq_true (p := i = R % 16) (by omega), show 16 * (R / 16) + i = R by omega, pk_us, decide_eq_true e0, decide_eq_true (p := R < R + 1) (by omega), Bool.or_true]
    rfl
  · have hb : bt (upd lm (R / 16) (lm (R / 16) ||| ((1 : Int32) <<< (nI (R % 16) &&& 31))) g) i = bt (lm g) i := by
      by_cases e2 : g = R / 16
      · subst e2
        rw [pk_us, b_or, cs_sh1 _ (by omega) hi, decide_eq_false (p := i = R % 16) (by omega), Bool.or_false]
      · rw [pk_un e2]
    rw [hb, hL]
    by_cases e0 : i < 16
    · rw [pk_un (by omega), show decide (16 * g + i < R + 1) = decide (16 * g + i < R) from decide_eq_decide.mpr (by omega)]
    · rw [decide_eq_false e0, Bool.false_and, Bool.false_and]
theorem cs_Lv_s {R r : Nat} {A lm : Nat → Int32} (hR : R ≤ 64) (hr : r < R) (h : cs_Lv R A lm) : cs_Lv R (upd A r 0) (upd lm (r / 16) (lm (r / 16) &&& (((1 : Int32) <<< (nI (r % 16) &&& 31)) ^^^ (-1)))) := by
  intro g hg4 i hi
  have hL := h g hg4 i hi
  have hx : bt (((1 : Int32) <<< (nI (r % 16) &&& 31)) ^^^ (-1)) i = !decide (i = r % 16) := by
    rw [b_xor, cs_sh1 _ (by omega) hi, b_m1 i hi, Bool.xor_true]
  by_cases e : i < 16 ∧ 16 * g + i = r
  · obtain ⟨e0, e1⟩ := e
    rw [show g = r / 16 by omega, pk_us, b_and, hx, decide_eq_true (p := i = r % 16) (by omega), show 16 * (r / 16) + i = r by omega, pk_us, decide_eq_true (p := (0 : Int32) = 0) rfl]
    simp
  · have hb : bt (upd lm (r / 16) (lm (r / 16) &&& (((1 : Int32) <<< (nI (r % 16) &&& 31)) ^^^ (-1))) g) i = bt (lm g) i := by
      by_cases e2 : g = r / 16
      · subst e2
        rw [pk_us, b_and, hx, decide_eq_false (p := i = r % 16) (by omega), Bool.not_false, Bool.and_true]
      · rw [pk_un e2]
    rw [hb, hL]
    by_cases e0 : i < 16
    · rw [pk_un (by omega)]
    · rw [decide_eq_false e0, Bool.false_and, Bool.false_and]
def cs_u3 (f : Nat → Int32) (i j k : Nat) (a b c : Int32) : Nat → Int32 := upd (upd (upd f i a) j b) k c
theorem cs_u3_o {f : Nat → Int32} {i j k n : Nat} {a b c : Int32} (h1 : n ≠ i) (h2 : n ≠ j) (h3 : n ≠ k) : cs_u3 f i j k a b c n = f n := by
  unfold cs_u3
  rw [pk_un h3, pk_un h2, pk_un h1]
theorem cs_Op_a {R : Nat} {V op : Nat → Int32} {a b c : Int32} (h : cs_Op R V op) : ∀ x, x < 3 → ∀ p, p < 16 → 16 * (R / 16) + p < R + 1 → cs_u3 op (R % 16) (16 + R % 16) (32 + R % 16) a b c (16 * x + p) = cs_u3 V (3 * R) (3 * R + 1) (3 * R + 2) a b c (3 * (16 * (R / 16) + p) + x) := by
  intro x hx p hp hlt
  by_cases e : p = R % 16
  · have e2 : 16 * (R / 16) + p = R := by omega
    rw [e2]
    rcases (show x = 0 ∨ x = 1 ∨ x = 2 by omega) with z | z | z
    · subst z
      unfold cs_u3
      rw [pk_un (by omega), pk_un (by omega), show 16 * 0 + p = R % 16 by omega, pk_us, pk_un (by omega), pk_un (by omega), Nat.add_zero, pk_us]
    · subst z
      unfold cs_u3
      rw [pk_un (by omega), show 16 * 1 + p = 16 + R % 16 by omega, pk_us, pk_un (by omega), pk_us]
    · subst z
      unfold cs_u3
      rw [show 16 * 2 + p = 32 + R % 16 by omega, pk_us, pk_us]
  · rw [cs_u3_o (by omega) (by omega) (by omega), cs_u3_o (by omega) (by omega) (by omega)]
    exact h x hx p hp (by omega)
theorem cs_CQ_V {R n : Nat} {V fo lo hg sz wo : Nat → Int32} {a b c : Int32} (hn : n ≤ 3 * (R / 16)) (h : cs_CQ n V fo lo hg sz wo) : cs_CQ n (cs_u3 V (3 * R) (3 * R + 1) (3 * R + 2) a b c) fo lo hg sz wo := by
  intro q hq
  exact cs_Part_fr rfl rfl rfl rfl (fun _ _ _ => rfl) (fun p hp => cs_u3_o (by omega) (by omega) (by omega)) (h q hq)
section
variable {vr vc : Int32} {op lm fo lo hg sz wo rg rl rh va : Nat → Int32}
theorem x_app_88 {post : Int32 → SX → Prop} (G : Nat) (V : Nat → Int32) (hG : G < 4) (hO : ∀ x, x < 3 → ∀ p, p < 16 → op (16 * x + p) = V (3 * (16 * G + p) + x))
    (h : ∀ m fn ln hn sn wn vn, cs_CQ (3 * G + 3) V fn ln hn sn wn → post (nI (16 * G + 16) - 1) (nI (16 * G + 16), m, op, lm, fn, ln, hn, sn, wn, rg, rl, rh, vn)) :
    ∀ d k m fn ln hn sn wn vn, k + d = 3 → cs_CQ (3 * G + k) V fn ln hn sn wn → wX_append_88 post (d + 1) (nI k) (nI (16 * G + 16)) m op lm fn ln hn sn wn rg rl rh vn := by
  have e1 : nI (16 * G + 16) - 16 = nI (16 * G) := pk_sub (b := 16) (by omega)
  have e2 : nI (16 * G) >>> ((4 : Int32) &&& 31) = nI G := by
    rw [pk_shrN (by omega) _ 4 (by decide)]
    exact congrArg nI (by omega)
  intro d
  induction d with
  | zero =>
    intro k m fn ln hn sn wn vn hd hI
    obtain rfl : k = 3 := by omega
    exact br_t (nI_le (a := 3) (b := 3) (by omega) (by decide)) (h m fn ln hn sn wn vn hI)
  | succ d ih =>
    intro k m fn ln hn sn wn vn hd hI
    refine br_f (nI_ge (a := k) (b := 3) (by omega) (by decide)) ?_
    rw [e1, e2, cs_3m, cs_16, nI_add (3 * G) k]
    refine x_close (3 * G + k) (16 * k) (by omega) (by omega) ?_
    intro m2 f2 l2 h2 s2 w2 v2 o1 o2 o3 o4 o5 hp
    refine nm_r (nI_1 k) (ih (k + 1) m2 f2 l2 h2 s2 w2 v2 (by omega) ?_)
    intro q hq
    by_cases z : q = 3 * G + k
    · subst z
      refine cs_Part_fr rfl rfl rfl rfl (fun _ _ _ => rfl) (fun p hp => ?_) hp
      show V (3 * (16 * ((3 * G + k) / 3) + p) + (3 * G + k) % 3) = op (16 * k + p)
      rw [show (3 * G + k) / 3 = G by omega, show (3 * G + k) % 3 = k by omega]
      exact (hO k (by omega) p hp).symm
    · exact cs_Part_fr (o1 q z) (o2 q z) (o3 q z) (o4 q z) (fun j h1 h2 => o5 j (by omega)) (fun _ _ => rfl) (hI q (by omega))
end
end
section
/-! the relation and what is owed -/
section
variable {vr vc : Int32} {op lm fo lo hg sz wo rg rl rh va : Nat → Int32}
theorem x_append {post : Int32 → SX → Prop} {R : Nat} {V A : Nat → Int32} (hS : cs_St R V A op lm fo lo hg sz wo) (hR : R < 64) (a b c : Int32)
    (h : ∀ m opn lmn fn ln hn sn wn vn, cs_St (R + 1) (cs_u3 V (3 * R) (3 * R + 1) (3 * R + 2) a b c) (upd A R 1) opn lmn fn ln hn sn wn → post (nI (R + 1) - 1) (nI (R + 1), m, opn, lmn, fn, ln, hn, sn, wn, rg, rl, rh, vn)) :
    wpX_append post (nI R, vc, op, lm, fo, lo, hg, sz, wo, rg, rl, rh, va) a b c := by
  obtain ⟨_, hL, hO, hC⟩ := hS
  have e1 : nI R &&& 15 = nI (R % 16) := pk_andN (by omega) 4 (by decide)
  have e2 : nI R >>> ((4 : Int32) &&& 31) = nI (R / 16) := pk_shrN (by omega) _ 4 (by decide)
  have e3 : (16 : Int32) + nI (R % 16) = nI (16 + R % 16) := nI_add 16 _
  have e4 : (32 : Int32) + nI (R % 16) = nI (32 + R % 16) := nI_add 32 _
  have hO2 := cs_Op_a (a := a) (b := b) (c := c) hO
  have hL2 := cs_Lv_a hR hL
  have hQ := cs_CQ_V (R := R) (a := a) (b := b) (c := c) (Nat.le_refl _) (cs_CQ_of hC)
  unfold wpX_append
  dsimp only
  refine br_t (nI_lt (a := R) (b := 64) hR (by decide)) (nm_r e1 ?_)
  rw [e2, e3, e4, nI_clamp (n := R % 16) (by omega), nI_clamp (n := 16 + R % 16) (by omega), nI_clamp (n := 32 + R % 16) (by omega), nI_clamp (n := R / 16) (by omega)]
  have i4 := vp_in_nI (show R / 16 < 5 by omega) (show 5 < 2 ^ 31 by omega)
  refine And.intro (vp_in_nI (by omega) (by omega)) (nm_e (And.intro (vp_in_nI (by omega) (by omega)) (nm_e (And.intro (vp_in_nI (by omega) (by omega)) (nm_e (And.intro i4 (And.intro i4 (nm_e (nm_r (nI_1 R) ?_)))))))))
  by_cases z : R % 16 = 15
  · have eR : 16 * (R / 16) + 16 = R + 1 := by omega
    have k := x_app_88 (post := post) (op := cs_u3 op (R % 16) (16 + R % 16) (32 + R % 16) a b c) (lm := upd lm (R / 16) (lm (R / 16) ||| ((1 : Int32) <<< (nI (R % 16) &&& 31)))) (rg := rg) (rl := rl) (rh := rh) (R / 16) (cs_u3 V (3 * R) (3 * R + 1) (3 * R + 2) a b c) (by omega) (fun x hx p hp => hO2 x hx p hp (by omega)) ?_ 3 0 vc fo lo hg sz wo va rfl hQ
    · rw [eR] at k
      exact br_t (by rw [z]; rfl) (Exists.intro 4 k)
    · intro m fn ln hn sn wn vn hq
      rw [eR]
      refine h m _ _ fn ln hn sn wn vn ⟨by omega, hL2, ?_, cs_Cl_of ?_⟩
      · intro x hx p hp hlt
        exact absurd hlt (by omega)
      · rw [show 3 * ((R + 1) / 16) = 3 * (R / 16) + 3 by omega]
        exact hq
  · have ne : ¬ nI (R % 16) = nI 15 := by
      rw [nI_eq (by omega) (by omega)]
      exact z
    refine br_f ne (h vc (cs_u3 op (R % 16) (16 + R % 16) (32 + R % 16) a b c) _ fo lo hg sz wo va ⟨by omega, hL2, ?_, cs_Cl_of ?_⟩)
    · unfold cs_Op
      rw [show (R + 1) / 16 = R / 16 by omega]
      exact hO2
    · rw [show (R + 1) / 16 = R / 16 by omega]
      exact hQ
theorem x_isC0 {post : Int32 → Prop} {x : Int32} (hx : x < 0 ∨ nI 3 ≤ x) (h : post 0) : wpX_isColumn post x := by
  unfold wpX_isColumn
  refine br_c (fun _ => h) (fun z => br_t ?_ h)
  rcases hx with y | y
  · exact absurd y z
  · exact cs_ltl (show (2 : Int32) < nI 3 by decide) y
theorem x_isC1 {post : Int32 → Prop} {c : Nat} (hc : c < 3) (h : post 1) : wpX_isColumn post (nI c) := by
  unfold wpX_isColumn
  exact br_f (nI_pos (by omega)) (br_f (nI_nlt (a := 2) (b := c) (by omega) (by decide)) h)
end
theorem y_bad1 {post : Int32 → Prop} {x : Int32} (hx : x < 0 ∨ nI 3 ≤ x) (h : post 1) : wpY_bad post x := by
  unfold wpY_bad
  refine br_c (fun _ => h) (fun z => br_f ?_ h)
  rcases hx with y | y
  · exact absurd y z
  · exact cs_gnl (cs_ltl (show (2 : Int32) < nI 3 by decide) y)
theorem y_bad0 {post : Int32 → Prop} {c : Nat} (hc : c < 3) (h : post 0) : wpY_bad post (nI c) := by
  unfold wpY_bad
  exact br_f (nI_pos (by omega)) (br_t (nI_le (a := c) (b := 2) (by omega) (by decide)) h)
theorem cs_ix3 (x : Int32) : (x < 0 ∨ nI 3 ≤ x) ∨ ∃ c : Nat, c < 3 ∧ x = nI c := by
  rcases pk_ix x (n := 3) (by decide) with h | h | h
  · exact Or.inl (Or.inl h)
  · exact Or.inl (Or.inr h)
  · exact Or.inr h
theorem y_append {post : Int32 → SY → Prop} {R : Nat} {V A rg rl rh : Nat → Int32} (hR : R < 64) (a b c : Int32) (h : post (nI (R + 1) - 1) (nI (R + 1), cs_u3 V (3 * R) (3 * R + 1) (3 * R + 2) a b c, upd A R 1, rg, rl, rh)) : wpY_append post (nI R, V, A, rg, rl, rh) a b c := by
  have e2 : nI (3 * R) + 2 = nI (3 * R + 2) := nI_add (3 * R) 2
  have ne : ¬ nI R = nI 64 := by
    rw [nI_eq (by omega) (by omega)]
    omega
  unfold wpY_append
  dsimp only
  refine br_f ne ?_
  rw [cs_3m, nI_1 (3 * R), e2, nI_clamp (n := 3 * R) (by omega), nI_clamp (n := 3 * R + 1) (by omega), nI_clamp (n := 3 * R + 2) (by omega), nI_clamp (n := R) (by omega)]
  exact And.intro (vp_in_nI (by omega) (by omega)) (nm_e (And.intro (vp_in_nI (by omega) (by omega)) (nm_e (And.intro (vp_in_nI (by omega) (by omega)) (nm_e (And.intro (vp_in_nI (by omega) (by omega)) (nm_r (e' := upd A R 1) rfl (nm_r (nI_1 R) h))))))))
def cs_rz (rg : Nat → Int32) : Nat → Nat → Int32
  | 0 => rg
  | i + 1 => upd (cs_rz rg i) i (vp_nar .boolean 0)
/-- both stores hold the same rows, the same ranges; the component's columns read as the reference's -/
def i_Rel (_ : Nat) (u : SX) (v : SY) : Prop := ∃ (R : Nat) (vc : Int32) (V A op lm fo lo hg sz wo rg rl rh va : Nat → Int32), u = (nI R, vc, op, lm, fo, lo, hg, sz, wo, rg, rl, rh, va) ∧ v = (nI R, V, A, rg, rl, rh) ∧ cs_St R V A op lm fo lo hg sz wo
theorem zz_mk {k R : Nat} {vc : Int32} {V A op lm fo lo hg sz wo rg rl rh va : Nat → Int32} (h : cs_St R V A op lm fo lo hg sz wo) : i_Rel k (nI R, vc, op, lm, fo, lo, hg, sz, wo, rg, rl, rh, va) (nI R, V, A, rg, rl, rh) := ⟨R, vc, V, A, op, lm, fo, lo, hg, sz, wo, rg, rl, rh, va, rfl, rfl, h⟩
theorem zz_el {k : Nat} {u : SX} {v : SY} {P : SX → SY → Prop} (h : ∀ (R : Nat) (vc : Int32) (V A op lm fo lo hg sz wo rg rl rh va : Nat → Int32), cs_St R V A op lm fo lo hg sz wo → P (nI R, vc, op, lm, fo, lo, hg, sz, wo, rg, rl, rh, va) (nI R, V, A, rg, rl, rh)) (I : i_Rel k u v) : P u v := by
  obtain ⟨R, vc, V, A, op, lm, fo, lo, hg, sz, wo, rg, rl, rh, va, e1, e2, hS⟩ := I
  rw [e1, e2]
  exact h R vc V A op lm fo lo hg sz wo rg rl rh va hS
theorem i_up {k : Nat} {u : SX} {v : SY} (h : i_Rel k u v) : i_Rel (k + 4) u v := h
theorem i_vc0 : wpX_init (fun u => wpY_init (fun v => i_Rel 0 u v)) := by
  unfold wpX_init wpY_init
  refine zz_mk (R := 0) ⟨by omega, ?_, ?_, ?_⟩
  · intro g _ i _
    rw [b_0, decide_eq_false (p := 16 * g + i < 0) (by omega), Bool.false_and, Bool.and_false]
  · intro c _ p _ h
    exact absurd h (by omega)
  · intro g c h _
    exact absurd h (by omega)
theorem i_vc_append {k : Nat} {u : SX} {v : SY} (I : i_Rel k u v) (hk : k + 4 ≤ 2048) (v1 : Int32) (v2 : Int32) (v3 : Int32) : wpX_append (fun r u' => wpY_append (fun r' v' => r' = r ∧ i_Rel (k + 4) u' v') v v1 v2 v3) u v1 v2 v3 := by
  refine zz_el (P := fun u v => wpX_append (fun r u' => wpY_append (fun r' v' => r' = r ∧ i_Rel (k + 4) u' v') v v1 v2 v3) u v1 v2 v3) ?_ I
  intro R vc V A op lm fo lo hg sz wo rg rl rh va hS
  by_cases hR : R < 64
  · exact x_append hS hR v1 v2 v3 (fun m opn lmn fn ln hn sn wn vn hst => y_append hR v1 v2 v3 ⟨rfl, zz_mk hst⟩)
  · have hle := hS.1
    obtain rfl : R = 64 := by omega
    exact br_f (nI_nlt (a := 64) (b := 64) (by omega) (by decide)) (br_t rfl ⟨rfl, zz_mk hS⟩)
theorem i_vc_strike {k : Nat} {u : SX} {v : SY} (I : i_Rel k u v) (hk : k + 4 ≤ 2048) (v1 : Int32) : wpX_strike (fun r u' => wpY_strike (fun r' v' => r' = r ∧ i_Rel (k + 4) u' v') v v1) u v1 := by
  refine zz_el (P := fun u v => wpX_strike (fun r u' => wpY_strike (fun r' v' => r' = r ∧ i_Rel (k + 4) u' v') v v1) u v1) ?_ I
  intro R vc V A op lm fo lo hg sz wo rg rl rh va hS
  have hR := hS.1
  rcases pk_ix v1 (n := R) (by omega) with h | h | ⟨r, hr, rfl⟩
  · exact br_t h (br_t h ⟨rfl, zz_mk hS⟩)
  · by_cases h0 : v1 < 0
    · exact br_t h0 (br_t h0 ⟨rfl, zz_mk hS⟩)
    · exact br_f h0 (br_t h (br_f h0 (br_t h ⟨rfl, zz_mk hS⟩)))
  · have e1 : nI r &&& 15 = nI (r % 16) := pk_andN (by omega) 4 (by decide)
    have e2 : nI r >>> ((4 : Int32) &&& 31) = nI (r / 16) := pk_shrN (by omega) _ 4 (by decide)
    have hb := hS.2.1 (r / 16) (by omega) (r % 16) (by omega)
    rw [decide_eq_true (p := r % 16 < 16) (by omega), show 16 * (r / 16) + r % 16 = r by omega, decide_eq_true hr, Bool.true_and, Bool.true_and] at hb
    have hi := vp_in_nI (show r / 16 < 5 by omega) (show 5 < 2 ^ 31 by omega)
    have hj := vp_in_nI (show r < 64 by omega) (show 64 < 2 ^ 31 by omega)
    have hp := nI_pos (n := r) (by omega)
    have hg := nI_ge (a := r) (b := R) hr (by omega)
    unfold wpX_strike
    dsimp only
    rw [e1, e2, nI_clamp (n := r / 16) (by omega)]
    refine br_f hp (br_f hg (And.intro hi ?_))
    by_cases c : A r = 0
    · rw [decide_eq_true c] at hb
      refine br_t ((cs_bz _ _ (by omega)).mpr hb) ?_
      unfold wpY_strike
      dsimp only
      rw [nI_clamp (n := r) (by omega)]
      exact br_f hp (br_f hg (And.intro hj (br_t c ⟨rfl, zz_mk hS⟩)))
    · rw [decide_eq_false c] at hb
      refine br_f (cs_bz1 _ _ (by omega) hb) (And.intro hi (And.intro hi (nm_e ?_)))
      unfold wpY_strike
      dsimp only
      rw [nI_clamp (n := r) (by omega)]
      exact br_f hp (br_f hg (And.intro hj (br_f c (And.intro hj (nm_r (e' := upd A r 0) rfl ⟨rfl, zz_mk ⟨hR, cs_Lv_s hR hr hS.2.1, hS.2.2⟩⟩)))))
theorem i_vc_range {k : Nat} {u : SX} {v : SY} (I : i_Rel k u v) (hk : k + 4 ≤ 2048) (v1 : Int32) (v2 : Int32) (v3 : Int32) : wpX_range (fun r u' => wpY_range (fun r' v' => r' = r ∧ i_Rel (k + 4) u' v') v v1 v2 v3) u v1 v2 v3 := by
  refine zz_el (P := fun u v => wpX_range (fun r u' => wpY_range (fun r' v' => r' = r ∧ i_Rel (k + 4) u' v') v v1 v2 v3) u v1 v2 v3) ?_ I
  intro R vc V A op lm fo lo hg sz wo rg rl rh va hS
  rcases cs_ix3 v1 with h | ⟨c, hc, rfl⟩
  · unfold wpX_range
    dsimp only
    refine x_isC0 h (br_t rfl ?_)
    unfold wpY_range
    dsimp only
    exact y_bad1 h (br_f (by decide) ⟨rfl, zz_mk hS⟩)
  · have hi := vp_in_nI hc (show 3 < 2 ^ 31 by omega)
    unfold wpX_range
    dsimp only
    refine x_isC1 hc (br_f (by decide) (And.intro hi (nm_e (And.intro hi (nm_e (And.intro hi (nm_e ?_)))))))
    unfold wpY_range
    dsimp only
    exact y_bad0 hc (br_t rfl (And.intro hi (nm_e (And.intro hi (nm_e (And.intro hi (nm_e ⟨rfl, zz_mk hS⟩)))))))
theorem i_vc_open {k : Nat} {u : SX} {v : SY} (I : i_Rel k u v) (hk : k + 4 ≤ 2048) : wpX_open (fun u' => wpY_open (fun v' => i_Rel (k + 4) u' v') v) u := by
  refine zz_el (P := fun u v => wpX_open (fun u' => wpY_open (fun v' => i_Rel (k + 4) u' v') v) u) ?_ I
  intro R vc V A op lm fo lo hg sz wo rg rl rh va hS
  have X : ∀ (post : SX → Prop), post (nI R, vc, op, lm, fo, lo, hg, sz, wo, cs_rz rg 3, rl, rh, va) → ∀ d i, i + d = 3 → wX_open_2 post (nI R) vc (d + 1) (nI i) op lm fo lo hg sz wo (cs_rz rg i) rl rh va := by
    intro post h d
    induction d with
    | zero =>
      intro i hd
      obtain rfl : i = 3 := by omega
      exact br_t (nI_le (a := 3) (b := 3) (by omega) (by decide)) h
    | succ d ih =>
      intro i hd
      refine br_f (nI_ge (a := i) (b := 3) (by omega) (by decide)) (And.intro (vp_in_nI (by omega) (by omega)) ?_)
      rw [nI_clamp (n := i) (by omega)]
      exact nm_e (nm_r (nI_1 i) (ih (i + 1) (by omega)))
  have Y : ∀ (post : SY → Prop), post (nI R, V, A, cs_rz rg 3, rl, rh) → ∀ d i, i + d = 3 → wY_open_2 post (nI R) (d + 1) (nI i) V A (cs_rz rg i) rl rh := by
    intro post h d
    induction d with
    | zero =>
      intro i hd
      obtain rfl : i = 3 := by omega
      exact br_t (nI_le (a := 3) (b := 3) (by omega) (by decide)) h
    | succ d ih =>
      intro i hd
      refine br_f (nI_ge (a := i) (b := 3) (by omega) (by decide)) (And.intro (vp_in_nI (by omega) (by omega)) ?_)
      rw [nI_clamp (n := i) (by omega)]
      exact nm_e (nm_r (nI_1 i) (ih (i + 1) (by omega)))
  exact Exists.intro 4 (X _ (Exists.intro 4 (Y _ (zz_mk hS) 3 0 rfl)) 3 0 rfl)
theorem i_vc_count {k : Nat} {u : SX} {v : SY} (I : i_Rel k u v) (hk : k + 4 ≤ 2048) : wpX_count (fun r => wpY_count (fun r' => r' = r ∧ i_Rel (k + 4) u v) v) u := by
  refine zz_el (P := fun u v => wpX_count (fun r => wpY_count (fun r' => r' = r ∧ i_Rel (k + 4) u v) v) u) ?_ I
  intro R vc V A op lm fo lo hg sz wo rg rl rh va hS
  exact x_count hS (y_count hS.1 ⟨rfl, zz_mk hS⟩)
theorem i_vc_sum {k : Nat} {u : SX} {v : SY} (I : i_Rel k u v) (hk : k + 4 ≤ 2048) (v1 : Int32) : wpX_sum (fun r => wpY_sum (fun r' => r' = r ∧ i_Rel (k + 4) u v) v v1) u v1 := by
  refine zz_el (P := fun u v => wpX_sum (fun r => wpY_sum (fun r' => r' = r ∧ i_Rel (k + 4) u v) v v1) u v1) ?_ I
  intro R vc V A op lm fo lo hg sz wo rg rl rh va hS
  rcases cs_ix3 v1 with h | ⟨c, hc, rfl⟩
  · unfold wpX_sum
    dsimp only
    refine x_isC0 h (br_t rfl ?_)
    unfold wpY_sum
    dsimp only
    exact y_bad1 h (br_f (by decide) ⟨rfl, zz_mk hS⟩)
  · unfold wpX_sum
    dsimp only
    refine x_isC1 hc (br_f (by decide) (Exists.intro 5 (x_sum_14 (A := A) hS c hc ?_ 4 0 rfl)))
    unfold wpY_sum
    dsimp only
    exact y_bad0 hc (br_t rfl (Exists.intro (R + 1) (y_sum_14 hS.1 c hc ⟨rfl, zz_mk hS⟩ R 0 (by omega))))
theorem i_vc_extreme {k : Nat} {u : SX} {v : SY} (I : i_Rel k u v) (hk : k + 4 ≤ 2048) (v1 : Int32) (v2 : Int32) : wpX_extreme (fun r => wpY_extreme (fun r' => r' = r ∧ i_Rel (k + 4) u v) v v1 (lw_bz v2)) u v1 (lw_bz v2) := by
  generalize lw_bz v2 = gr
  refine zz_el (P := fun u v => wpX_extreme (fun r => wpY_extreme (fun r' => r' = r ∧ i_Rel (k + 4) u v) v v1 gr) u v1 gr) ?_ I
  intro R vc V A op lm fo lo hg sz wo rg rl rh va hS
  rcases cs_ix3 v1 with h | ⟨c, hc, rfl⟩
  · unfold wpX_extreme
    dsimp only
    refine x_isC0 h (br_t rfl ?_)
    unfold wpY_extreme
    dsimp only
    exact y_bad1 h (br_f (by decide) ⟨rfl, zz_mk hS⟩)
  · unfold wpX_extreme
    dsimp only
    refine x_isC1 hc (br_f (by decide) (Exists.intro 5 (x_ex_17 (A := A) hS c gr hc ?_ 4 0 rfl)))
    unfold wpY_extreme
    dsimp only
    exact y_bad0 hc (br_t rfl (Exists.intro (R + 1) (y_ex_17 hS.1 c gr hc ⟨rfl, zz_mk hS⟩ R 0 (by omega))))
theorem i_vc_passing {k : Nat} {u : SX} {v : SY} (I : i_Rel k u v) (hk : k + 4 ≤ 2048) (v1 : Int32) : wpX_passing (fun r => wpY_passing (fun r' => r' = r ∧ i_Rel (k + 4) u v) v v1) u v1 := by
  refine zz_el (P := fun u v => wpX_passing (fun r => wpY_passing (fun r' => r' = r ∧ i_Rel (k + 4) u v) v v1) u v1) ?_ I
  intro R vc V A op lm fo lo hg sz wo rg rl rh va hS
  have hR := hS.1
  have hle := cs_cn_le (cs_P R V A rg rl rh) R
  by_cases h0 : v1 < 0
  · refine br_f (cs_gnl h0) (Exists.intro (R + 1) (y_psg_B hS.1 v1 ?_ ⟨rfl, zz_mk hS⟩ R 0 (by omega)))
    intro n hn e
    rw [← e] at h0
    exact nI_pos (n := n) (by omega) h0
  · obtain ⟨idx, hx, rfl⟩ := nI_of h0
    refine br_t (cs_nlt h0) ?_
    rcases Nat.lt_or_ge idx (cs_cn (cs_P R V A rg rl rh) R) with z | z
    · obtain ⟨r, hr, hp, hc⟩ := cs_cn_ex _ R idx z
      exact Exists.intro (r / 16 + 1) (x_pas_A hS hp hc (Exists.intro (r + 1) (y_psg_A hS.1 hp hc ⟨rfl, zz_mk hS⟩ r 0 (by omega))) (r / 16) 0 idx (by omega) (Nat.add_zero idx))
    · refine Exists.intro 5 (x_pas_B (A := A) (V := V) hS hx z (Exists.intro (R + 1) (y_psg_B hS.1 (nI idx) ?_ ⟨rfl, zz_mk hS⟩ R 0 (by omega))) 4 0 idx (by omega) (Nat.add_zero idx))
      intro n hn e
      rw [nI_eq (by omega) hx] at e
      omega
theorem i_vc_value {k : Nat} {u : SX} {v : SY} (I : i_Rel k u v) (hk : k + 4 ≤ 2048) (v1 : Int32) (v2 : Int32) : wpX_value (fun r => wpY_value (fun r' => r' = r ∧ i_Rel (k + 4) u v) v v1 v2) u v1 v2 := by
  refine zz_el (P := fun u v => wpX_value (fun r => wpY_value (fun r' => r' = r ∧ i_Rel (k + 4) u v) v v1 v2) u v1 v2) ?_ I
  intro R vc V A op lm fo lo hg sz wo rg rl rh va hS
  have hR := hS.1
  rcases pk_ix v1 (n := R) (by omega) with h | h | ⟨r, hr, rfl⟩
  · exact br_t h (br_t h ⟨rfl, zz_mk hS⟩)
  · by_cases h0 : v1 < 0
    · exact br_t h0 (br_t h0 ⟨rfl, zz_mk hS⟩)
    · exact br_f h0 (br_t h (br_f h0 (br_t h ⟨rfl, zz_mk hS⟩)))
  · have hp := nI_pos (n := r) (by omega)
    have hq := nI_ge (a := r) (b := R) hr (by omega)
    rcases cs_ix3 v2 with h | ⟨c, hc, rfl⟩
    · exact br_f hp (br_f hq (x_isC0 h (br_t rfl (br_f hp (br_f hq (y_bad1 h (br_f (by decide) ⟨rfl, zz_mk hS⟩)))))))
    · have e1 : nI r &&& 15 = nI (r % 16) := pk_andN (by omega) 4 (by decide)
      have e2 : nI r >>> ((4 : Int32) &&& 31) = nI (r / 16) := pk_shrN (by omega) _ 4 (by decide)
      unfold wpX_value
      dsimp only
      rw [e1, e2]
      refine br_f hp (br_f hq (x_isC1 hc (br_f (by decide) (x_valueIn hS.1 hS.2.2.2 (r / 16) c (r % 16) (by omega) hc (by omega) ?_))))
      rw [cs_F_V hS.2.2.1 hc (by omega) (by omega), show 16 * (r / 16) + r % 16 = r by omega]
      unfold wpY_value
      dsimp only
      rw [cs_3m, nI_add (3 * r) c, nI_clamp (n := 3 * r + c) (by omega)]
      exact br_f hp (br_f hq (y_bad0 hc (br_t rfl (And.intro (vp_in_nI (by omega) (by omega)) ⟨rfl, zz_mk hS⟩))))
theorem i_vc_different {k : Nat} {u : SX} {v : SY} (I : i_Rel k u v) (hk : k + 4 ≤ 2048) (v1 : Int32) : wpX_different (fun r u' => wpY_different (fun r' => r' = r ∧ i_Rel (k + 4) u' v) v v1) u v1 := by
  refine zz_el (P := fun u v => wpX_different (fun r u' => wpY_different (fun r' => r' = r ∧ i_Rel (k + 4) u' v) v v1) u v1) ?_ I
  intro R vc V A op lm fo lo hg sz wo rg rl rh va hS
  rcases cs_ix3 v1 with h | ⟨c, hc, rfl⟩
  · unfold wpX_different
    dsimp only
    refine x_isC0 h (br_t rfl ?_)
    unfold wpY_different
    dsimp only
    exact y_bad1 h (br_f (by decide) ⟨rfl, zz_mk hS⟩)
  · unfold wpX_different
    dsimp only
    refine x_isC1 hc (br_f (by decide) (Exists.intro 5 (x_df_16 (A := A) hS c hc ?_ 4 0 va rfl ?_)))
    · intro vn
      unfold wpY_different
      dsimp only
      exact y_bad0 hc (br_t rfl (Exists.intro (R + 1) (y_df_13 hS.1 c hc ⟨rfl, zz_mk hS⟩ R 0 (by omega))))
    · refine ⟨fun i j _ hj => absurd hj (Nat.not_lt_zero j), fun x => ⟨?_, ?_⟩⟩
      · rintro ⟨e, he, _⟩
        exact absurd he (Nat.not_lt_zero e)
      · intro z
        exact absurd (show false = true from z) (by decide)
theorem i_vc_live {k : Nat} {u : SX} {v : SY} (I : i_Rel k u v) (hk : k + 4 ≤ 2048) : wpX_live (fun r => wpY_live (fun r' => r' = r ∧ i_Rel (k + 4) u v) v) u := by
  refine zz_el (P := fun u v => wpX_live (fun r => wpY_live (fun r' => r' = r ∧ i_Rel (k + 4) u v) v) u) ?_ I
  intro R vc V A op lm fo lo hg sz wo rg rl rh va hS
  exact x_live hS.1 hS.2.1 (y_live hS.1 ⟨rfl, zz_mk hS⟩)
end
