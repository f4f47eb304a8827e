section
theorem pk_us {f : Nat → Int32} {k : Nat} {x : Int32} : upd f k x k = x := if_pos rfl
theorem pk_un {f : Nat → Int32} {k j : Nat} {x : Int32} (h : j ≠ k) : upd f k x j = f j := if_neg h
theorem pk_sub {a b : Nat} (h : b ≤ a) : nI a - nI b = nI (a - b) := by
  obtain ⟨c, rfl⟩ : ∃ c, a = c + b := ⟨a - b, by omega⟩
  rw [← nI_add, Int32.add_sub_cancel, Nat.add_sub_cancel]
theorem pk_m1 (n : Nat) : nI (n + 1) + (-1) = nI n := by
  rw [← nI_1, Int32.add_assoc, show (1 : Int32) + (-1) = 0 from rfl, Int32.add_zero]
theorem pk_mul (a b : Nat) : nI a * nI b = nI (a * b) := (Int32.ofNat_mul a b).symm
theorem pk_sub_toInt {a b : Nat} (ha : a < 2 ^ 30) (hb : b < 2 ^ 30) : (nI a - nI b).toInt = (a : Int) - b := by
  rw [Int32.toInt_sub, nI_toInt (by omega), nI_toInt (by omega)]
  exact Int.bmod_eq_of_le (by omega) (by omega)
theorem pk_sneg {a b : Nat} (hb : b < 2 ^ 30) (h : a < b) : nI a - nI b < 0 := by
  rw [Int32.lt_iff_toInt_lt, pk_sub_toInt (by omega) hb, show (0 : Int32).toInt = 0 from by decide]
  omega
theorem pk_ix (x : Int32) {n : Nat} (hn : n < 2 ^ 31) : x < 0 ∨ nI n ≤ x ∨ ∃ j : Nat, j < n ∧ x = nI j := by
  by_cases h : x < 0
  · exact Or.inl h
  · obtain ⟨j, hj, rfl⟩ := nI_of h
    by_cases h2 : j < n
    · exact Or.inr (Or.inr ⟨j, h2, rfl⟩)
    · exact Or.inr (Or.inl (nI_le (by omega) hj))
theorem pk_le {x y : Int32} {A B : Prop} (a b : Nat) (f : a ≤ b → A) (g : b < a → B) (hx : x = nI a := by rfl) (hy : y = nI b := by rfl) (ha : a < 2 ^ 31 := by omega) (hb : b < 2 ^ 31 := by omega) : (x ≤ y → A) ∧ (¬ x ≤ y → B) := by
  subst hx hy
  rw [nI_leI ha hb]
  exact ⟨f, fun z => g (by omega)⟩
theorem pk_lt {x y : Int32} {A B : Prop} (a b : Nat) (f : a < b → A) (g : b ≤ a → B) (hx : x = nI a := by rfl) (hy : y = nI b := by rfl) (ha : a < 2 ^ 31 := by omega) (hb : b < 2 ^ 31 := by omega) : (x < y → A) ∧ (¬ x < y → B) := by
  subst hx hy
  rw [nI_ltI ha hb]
  exact ⟨f, fun z => g (by omega)⟩
theorem pk_eq {x y : Int32} {A B : Prop} (a b : Nat) (f : a = b → A) (g : a ≠ b → B) (hx : x = nI a := by rfl) (hy : y = nI b := by rfl) (ha : a < 2 ^ 31 := by omega) (hb : b < 2 ^ 31 := by omega) : (x = y → A) ∧ (¬ x = y → B) := by
  subst hx hy
  rw [nI_eq ha hb]
  exact ⟨f, g⟩
theorem pk_in {x : Int32} (n N : Nat) (h : n < N) (hx : x = nI n := by rfl) (hN : N < 2 ^ 31 := by omega) : vp_in x N := by
  subst hx
  exact vp_in_nI h hN
theorem pk_cl {x : Int32} (n : Nat) (hx : x = nI n := by rfl) (h : n < 2 ^ 31 := by omega) : x.toNatClampNeg = n := by
  subst hx
  exact nI_clamp h
theorem pk_tn {n : Nat} (h : n < 2 ^ 32) : (nI n).toBitVec.toNat = n := Nat.mod_eq_of_lt h
theorem pk_and (x : Int32) {m : Int32} (k : Nat) (hm : m.toBitVec.toNat = 2 ^ k - 1) : x &&& m = nI (x.toBitVec.toNat % 2 ^ k) := by
  apply Int32.toBitVec_inj.mp
  apply BitVec.eq_of_toNat_eq
  rw [Int32.toBitVec_and, BitVec.toNat_and, hm, Nat.and_two_pow_sub_one_eq_mod]
  show _ = (BitVec.ofNat 32 _).toNat
  rw [BitVec.toNat_ofNat]
  exact (Nat.mod_eq_of_lt (Nat.lt_of_le_of_lt (Nat.mod_le _ _) x.toBitVec.isLt)).symm
theorem pk_andN {n : Nat} (h : n < 2 ^ 32) {m : Int32} (k : Nat) (hm : m.toBitVec.toNat = 2 ^ k - 1) : nI n &&& m = nI (n % 2 ^ k) := by
  rw [pk_and _ k hm, pk_tn h]
theorem pk_andE (x : Int32) {m : Int32} (k : Nat) (hm : m.toBitVec.toNat = 2 ^ k - 1) : ∃ j : Nat, j < 2 ^ k ∧ x &&& m = nI j := ⟨_, Nat.mod_lt _ (Nat.two_pow_pos k), pk_and x k hm⟩
theorem pk_andIn (x : Int32) {m : Int32} (k : Nat) (hm : m.toBitVec.toNat = 2 ^ k - 1) (hk : k ≤ 30) : vp_in (x &&& m) (2 ^ k) := by
  obtain ⟨j, hj, e⟩ := pk_andE x k hm
  rw [e]
  exact vp_in_nI hj (Nat.lt_of_le_of_lt (Nat.pow_le_pow_right (by decide) hk) (by decide))
theorem pk_shl (a s : Int32) (k : Nat) (hs : (s.toBitVec.smod 32).toNat = k) : (a <<< s).toBitVec.toNat = a.toBitVec.toNat * 2 ^ k % 2 ^ 32 := by
  show (a.toBitVec <<< (s.toBitVec.smod 32).toNat).toNat = _
  rw [hs, BitVec.toNat_shiftLeft, Nat.shiftLeft_eq]
theorem pk_shlN {n : Nat} (s : Int32) (k : Nat) (hs : (s.toBitVec.smod 32).toNat = k) (h : n * 2 ^ k < 2 ^ 32) : nI n <<< s = nI (n * 2 ^ k) := by
  apply Int32.toBitVec_inj.mp
  apply BitVec.eq_of_toNat_eq
  have hn : n < 2 ^ 32 := Nat.lt_of_le_of_lt (Nat.le_mul_of_pos_right n (Nat.two_pow_pos k)) h
  rw [pk_shl _ _ k hs, pk_tn hn, pk_tn h, Nat.mod_eq_of_lt h]
theorem pk_shr (a s : Int32) (k : Nat) (hs : (s.toBitVec.smod 32).toNat = k) : (a >>> s).toInt = a.toInt >>> k := by
  show (a.toBitVec.sshiftRight (s.toBitVec.smod 32).toNat).toInt = _
  rw [hs, BitVec.toInt_sshiftRight]
  rfl
theorem pk_shrN {n : Nat} (h : n < 2 ^ 31) (s : Int32) (k : Nat) (hs : (s.toBitVec.smod 32).toNat = k) : nI n >>> s = nI (n / 2 ^ k) := by
  apply Int32.toInt_inj.mp
  have h2 : n / 2 ^ k ≤ n := Nat.div_le_self _ _
  rw [pk_shr _ _ k hs, nI_toInt h, nI_toInt (by omega), Int.shiftRight_eq_div_pow]
  rfl
theorem pk_loop {σ : Type} (W : Nat → Nat → σ → Prop) (I : Nat → σ → Prop) (e i0 : Nat) (s : σ) (hi : i0 ≤ e) (h0 : I i0 s) (hx : ∀ n s, I e s → W (n + 1) e s)
    (hs : ∀ n i s, i < e → I i s → (∀ s', I (i + 1) s' → W n (i + 1) s') → W (n + 1) i s) : ∃ n, W n i0 s :=
  ⟨e + 1, loop_i W I e hx hs (e + 1) i0 s hi (by omega) h0⟩
theorem pk_loopD {σ : Type} (W : Nat → Nat → σ → Prop) (I : Nat → σ → Prop) (hx : ∀ n s, I 0 s → W (n + 1) 0 s)
    (hs : ∀ n i s, I (i + 1) s → (∀ s', I i s' → W n i s') → W (n + 1) (i + 1) s) : ∀ (e : Nat) (s : σ), I e s → W (e + 1) e s := by
  intro e
  induction e with
  | zero => exact fun s h => hx 0 s h
  | succ e ih => exact fun s h => hs (e + 1) e s h (fun s' h' => ih s' h')
def bt (x : Int32) (i : Nat) : Bool := x.toBitVec.getLsbD i
theorem b_ext {x y : Int32} (h : ∀ i, i < 32 → bt x i = bt y i) : x = y := Int32.toBitVec_inj.mp (BitVec.eq_of_getLsbD_eq (fun i hi => h i hi))
theorem b_or (x y : Int32) (i : Nat) : bt (x ||| y) i = (bt x i || bt y i) := by unfold bt; rw [Int32.toBitVec_or, BitVec.getLsbD_or]
theorem b_and (x y : Int32) (i : Nat) : bt (x &&& y) i = (bt x i && bt y i) := by unfold bt; rw [Int32.toBitVec_and, BitVec.getLsbD_and]
theorem b_xor (x y : Int32) (i : Nat) : bt (x ^^^ y) i = (bt x i ^^ bt y i) := by unfold bt; rw [Int32.toBitVec_xor, BitVec.getLsbD_xor]
theorem b_big {x : Int32} {i : Nat} (h : 32 ≤ i) : bt x i = false := BitVec.getLsbD_of_ge _ _ h
theorem b_255 (i : Nat) : bt 255 i = decide (i < 8) := by
  rcases Nat.lt_or_ge i 32 with h | h
  · exact (by decide +kernel : ∀ i, i < 32 → bt 255 i = decide (i < 8)) i h
  · rw [b_big h, decide_eq_false (by omega)]
theorem b_65535 (i : Nat) : bt 65535 i = decide (i < 16) := by
  rcases Nat.lt_or_ge i 32 with h | h
  · exact (by decide +kernel : ∀ i, i < 32 → bt 65535 i = decide (i < 16)) i h
  · rw [b_big h, decide_eq_false (by omega)]
theorem b_m1 : ∀ i, i < 32 → bt (-1) i = true := by decide +kernel
theorem b_0 (i : Nat) : bt 0 i = false := BitVec.getLsbD_zero
theorem s_l : ∀ n, n < 32 → ((nI n &&& 31).toBitVec.smod 32).toNat = n := by decide +kernel
theorem s_u : ∀ n, n < 32 → (((nI n).toUInt32 &&& Int32.toUInt32 31).toBitVec % 32).toNat = n := by decide +kernel
theorem b_shl (n : Nat) (hn : n < 32) (x : Int32) {i : Nat} (hi : i < 32) : bt (x <<< (nI n &&& 31)) i = (decide (n ≤ i) && bt x (i - n)) := by
  unfold bt
  rw [Int32.toBitVec_shiftLeft]
  show (x.toBitVec <<< ((nI n &&& 31).toBitVec.smod 32).toNat).getLsbD i = _
  rw [s_l n hn, BitVec.getLsbD_shiftLeft]
  rcases Nat.lt_or_ge i n with h | h
  · simp [h, Nat.not_le.mpr h]
  · simp [hi, h, Nat.not_lt.mpr h]
theorem b_ushr (n : Nat) (hn : n < 32) (x : Int32) (i : Nat) : bt ((x.toUInt32 >>> ((nI n).toUInt32 &&& Int32.toUInt32 31)).toInt32) i = bt x (n + i) := by
  show (x.toUInt32 >>> ((nI n).toUInt32 &&& Int32.toUInt32 31)).toBitVec.getLsbD i = x.toUInt32.toBitVec.getLsbD (n + i)
  rw [UInt32.toBitVec_shiftRight]
  show (x.toUInt32.toBitVec >>> (((nI n).toUInt32 &&& Int32.toUInt32 31).toBitVec % 32).toNat).getLsbD i = _
  rw [s_u n hn, BitVec.getLsbD_ushiftRight]
theorem b_sshr (n : Nat) (hn : n < 32) (x : Int32) {i : Nat} (hi : i < 32) : bt (x >>> (nI n &&& 31)) i = if n + i < 32 then bt x (n + i) else bt x 31 := by
  unfold bt
  rw [Int32.toBitVec_shiftRight]
  show (x.toBitVec.sshiftRight ((nI n &&& 31).toBitVec.smod 32).toNat).getLsbD i = _
  rw [s_l n hn, BitVec.getLsbD_sshiftRight, BitVec.msb_eq_getLsbD_last]
  simp [hi]
theorem b_shl8 (x : Int32) {i : Nat} (hi : i < 32) : bt (x <<< ((8 : Int32) &&& 31)) i = (decide (8 ≤ i) && bt x (i - 8)) := b_shl 8 (by omega) x hi
theorem b_shl16 (x : Int32) {i : Nat} (hi : i < 32) : bt (x <<< ((16 : Int32) &&& 31)) i = (decide (16 ≤ i) && bt x (i - 16)) := b_shl 16 (by omega) x hi
theorem b_shl24 (x : Int32) {i : Nat} (hi : i < 32) : bt (x <<< ((24 : Int32) &&& 31)) i = (decide (24 ≤ i) && bt x (i - 24)) := b_shl 24 (by omega) x hi
theorem b_sshr8 (x : Int32) {i : Nat} (hi : i < 32) : bt (x >>> ((8 : Int32) &&& 31)) i = if 8 + i < 32 then bt x (8 + i) else bt x 31 := b_sshr 8 (by omega) x hi
/-! ===== nI under and, xor, >>>, one bit, 65535 ===== -/
theorem nx_and (a b : Nat) : nI a &&& nI b = nI (a &&& b) := by
  apply Int32.toBitVec_inj.1
  show BitVec.ofNat 32 a &&& BitVec.ofNat 32 b = BitVec.ofNat 32 (a &&& b)
  apply BitVec.eq_of_getLsbD_eq
  intro i hi
  simp [hi]
theorem nx_xor (a b : Nat) : nI a ^^^ nI b = nI (a ^^^ b) := by
  apply Int32.toBitVec_inj.1
  show BitVec.ofNat 32 a ^^^ BitVec.ofNat 32 b = BitVec.ofNat 32 (a ^^^ b)
  apply BitVec.eq_of_getLsbD_eq
  intro i hi
  simp [hi]
theorem nx_cnt : ∀ j : Fin 32, (UInt32.ofNat j.val &&& Int32.toUInt32 31).toNat % 32 = j.val := by decide +kernel
theorem nx_ush {k j : Nat} (hk : k < 65536) (hj : j < 32) : ((nI k).toUInt32 >>> ((nI j).toUInt32 &&& Int32.toUInt32 31)).toInt32 = nI (k >>> j) := by
  have hs : k >>> j ≤ k := by
    rw [Nat.shiftRight_eq_div_pow]
    exact Nat.div_le_self _ _
  have e2 : UInt32.ofNat k >>> (UInt32.ofNat j &&& Int32.toUInt32 31) = UInt32.ofNat (k >>> j) := by
    apply UInt32.toNat_inj.1
    have h1 : (UInt32.ofNat k).toNat = k := Nat.mod_eq_of_lt (by omega)
    have h2 : (UInt32.ofNat (k >>> j)).toNat = k >>> j := Nat.mod_eq_of_lt (by omega)
    rw [UInt32.toNat_shiftRight, nx_cnt ⟨j, hj⟩, h1, h2]
  show (UInt32.ofNat k >>> (UInt32.ofNat j &&& Int32.toUInt32 31)).toInt32 = _
  rw [e2]
  rfl
theorem nx_bit {k j : Nat} (hk : k < 65536) (hj : j < 16) : (((nI k).toUInt32 >>> ((nI j).toUInt32 &&& Int32.toUInt32 31)).toInt32 &&& 1) = 0 ↔ k.testBit j = false := by
  rw [nx_ush hk (by omega)]
  show nI (k >>> j) &&& nI 1 = 0 ↔ _
  rw [nx_and, Nat.and_one_is_mod, ← nI_0, nI_eq (by omega) (by omega), Nat.testBit_eq_decide_div_mod_eq, Nat.shiftRight_eq_div_pow, decide_eq_false_iff_not]
  generalize k / 2 ^ j = z
  omega
theorem nx_mod (k : Nat) : nI k &&& 65535 = nI (k % 65536) := by
  show nI k &&& nI 65535 = _
  rw [nx_and, show (65535 : Nat) = 2 ^ 16 - 1 from rfl, Nat.and_two_pow_sub_one_eq_mod]
theorem nx_m16 {k : Nat} (h : k < 65536) : nI k &&& 65535 = nI k := by rw [nx_mod, Nat.mod_eq_of_lt h]
theorem nx_mask (x : Int32) : ∃ k, k < 65536 ∧ x &&& 65535 = nI k := by
  have e : x = nI x.toBitVec.toNat := by
    apply Int32.toBitVec_inj.1
    show x.toBitVec = BitVec.ofNat 32 x.toBitVec.toNat
    simp
  refine ⟨x.toBitVec.toNat % 65536, Nat.mod_lt _ (by omega), ?_⟩
  rw [← nx_mod, ← e]
end
section
/-! ===== bits of an Int32, and numbers ===== -/
theorem cw_one : ∀ i, i < 32 → bt 1 i = decide (i = 0) := by decide +kernel
theorem cw_oneA (i : Nat) : bt 1 i = decide (i = 0) := by
  rcases Nat.lt_or_ge i 32 with h | h
  · exact cw_one i h
  · rw [b_big h, decide_eq_false (by omega)]
theorem cw_256' : ∀ i, i < 32 → bt 256 i = decide (i = 8) := by decide +kernel
theorem cw_256 (i : Nat) : bt 256 i = decide (i = 8) := by
  rcases Nat.lt_or_ge i 32 with h | h
  · exact cw_256' i h
  · rw [b_big h, decide_eq_false (by omega)]
theorem cw_and1 (y : Int32) : (y &&& 1) = 1 ↔ bt y 0 = true := by
  constructor
  · intro h
    have e : bt (y &&& 1) 0 = bt 1 0 := by rw [h]
    rw [b_and, cw_oneA] at e
    simpa using e
  · intro h
    apply b_ext
    intro i hi
    rw [b_and, cw_oneA]
    by_cases z : i = 0
    · subst z; simp [h]
    · simp [z]
theorem cw_test {x : Int32} {p : Nat} (hp : p < 32) : ((x >>> (nI p &&& 31)) &&& 1) = 1 ↔ bt x p = true := by
  rw [cw_and1, b_sshr p hp x (by omega), if_pos (by omega), Nat.add_zero]
theorem cw_bit {p : Nat} (hp : p < 32) (i : Nat) : bt ((1 : Int32) <<< (nI p &&& 31)) i = decide (i = p) := by
  rcases Nat.lt_or_ge i 32 with h | h
  · rw [b_shl p hp 1 h, cw_oneA]
    by_cases z : i = p
    · subst z; simp
    · by_cases y : p ≤ i
      · have : ¬ (i - p = 0) := by omega
        simp [z, this]
      · simp [z, y]
  · rw [b_big h, decide_eq_false (by omega)]
theorem cw_zero {x : Int32} : x = 0 ↔ ∀ i, bt x i = false := by
  constructor
  · intro h i; rw [h, b_0]
  · intro h; apply b_ext; intro i _; rw [h i, b_0]
theorem cw_nz {x : Int32} : ¬ x = 0 ↔ ∃ i, bt x i = true := by
  rw [cw_zero]
  constructor
  · intro h
    exact Classical.byContradiction (fun z => h (fun i => by
      cases e : bt x i
      · rfl
      · exact absurd ⟨i, e⟩ z))
  · intro ⟨i, hi⟩ h
    rw [h i] at hi
    exact absurd hi (by decide)
theorem cw_shr {x : Int32} {s : Nat} (hs : s < 32) (hx : bt x 31 = false) (i : Nat) : bt (x >>> (nI s &&& 31)) i = bt x (s + i) := by
  rcases Nat.lt_or_ge i 32 with h | h
  · rw [b_sshr s hs x h]
    by_cases z : s + i < 32
    · rw [if_pos z]
    · rw [if_neg z, hx, b_big (by omega)]
  · rw [b_big h, b_big (by omega)]
theorem cw_orT {x y : Int32} {i : Nat} : bt (x ||| y) i = true ↔ bt x i = true ∨ bt y i = true := by
  rw [b_or, Bool.or_eq_true]
theorem cw_andT {x y : Int32} {i : Nat} : bt (x &&& y) i = true ↔ bt x i = true ∧ bt y i = true := by
  rw [b_and, Bool.and_eq_true]
theorem cw_0T {i : Nat} : ¬ bt 0 i = true := by rw [b_0]; decide
theorem cw_bitT {p : Nat} (hp : p < 32) {i : Nat} : bt ((1 : Int32) <<< (nI p &&& 31)) i = true ↔ i = p := by
  rw [cw_bit hp, decide_eq_true_iff]
theorem cw_p31 {n : Nat} (hn : n < 31) : 2 ^ n < 2 ^ 31 := Nat.pow_lt_pow_right (by decide) hn
theorem cw_pw {n : Nat} (hn : n < 31) : (1 : Int32) <<< (nI n &&& 31) = nI (2 ^ n) := by
  have h2 := cw_p31 hn
  show nI 1 <<< (nI n &&& 31) = _
  rw [pk_shlN (nI n &&& 31) n (s_l n (by omega)) (by omega), Nat.one_mul]
theorem cw_dv {a s : Nat} (ha : a < 2 ^ 31) (hs : s < 32) : nI a >>> (nI s &&& 31) = nI (a / 2 ^ s) := pk_shrN ha _ s (s_l s hs)
theorem cw_m2 {a : Nat} (ha : a < 2 ^ 31) : nI a &&& 1 = nI (a % 2) := by
  rw [pk_andN (by omega) (m := 1) 1 (by decide)]
theorem cw_dg {a s : Nat} (ha : a < 2 ^ 31) (hs : s < 32) : (nI a >>> (nI s &&& 31)) &&& 1 = nI (a / 2 ^ s % 2) := by
  rw [cw_dv ha hs, cw_m2 (Nat.lt_of_le_of_lt (Nat.div_le_self _ _) ha)]
theorem cw_s1 {n : Nat} (h : 1 ≤ n) : nI n - 1 = nI (n - 1) := pk_sub (b := 1) h
theorem cw_mk {a r : Nat} (hr : r < 31) : nI a &&& ((1 : Int32) <<< (nI r &&& 31) - 1) = nI (a % 2 ^ r) := by
  rw [cw_pw hr, cw_s1 (Nat.two_pow_pos r), nx_and, Nat.and_two_pow_sub_one_eq_mod]
theorem cw_btn {n i : Nat} (hi : i < 32) : bt (nI n) i = decide (n / 2 ^ i % 2 = 1) := by
  unfold bt
  show (BitVec.ofNat 32 n).getLsbD i = _
  rw [BitVec.getLsbD_ofNat, Nat.testBit_eq_decide_div_mod_eq]
  simp [hi]
theorem cw_nb0 : vp_nar .boolean 0 = 0 := by first | rfl | decide
theorem cw_nb1 : ¬ vp_nar .boolean 1 = 0 := by
  have h : vp_nar .boolean 1 = 1 := by first | rfl | decide
  rw [h]; decide
theorem cw_updA (f : Nat → Int32) (k : Nat) (x : Int32) (j : Nat) : upd f k x j = if j = k then x else f j := rfl
/-- a branch by an equivalent condition -/
theorem cw_if {c d A B : Prop} (e : c ↔ d) (f : d → A) (g : ¬ d → B) : (c → A) ∧ (¬ c → B) :=
  ⟨fun z => f (e.mp z), fun z => g (fun y => z (e.mpr y))⟩
/-- counts -/
noncomputable def cw_b01 (P : Prop) : Nat := @ite Nat P (Classical.propDecidable P) 1 0
theorem cw_b1 {P : Prop} (h : P) : cw_b01 P = 1 := by unfold cw_b01; exact if_pos h
theorem cw_b0 {P : Prop} (h : ¬ P) : cw_b01 P = 0 := by unfold cw_b01; exact if_neg h
theorem cw_ble (P : Prop) : cw_b01 P ≤ 1 := by
  by_cases h : P
  · rw [cw_b1 h]; exact Nat.le_refl _
  · rw [cw_b0 h]; omega
noncomputable def cw_cn (P : Nat → Prop) : Nat → Nat
  | 0 => 0
  | j + 1 => cw_cn P j + cw_b01 (P j)
theorem cw_cnT {P : Nat → Prop} {j : Nat} (h : P j) : cw_cn P (j + 1) = cw_cn P j + 1 := by
  show cw_cn P j + cw_b01 (P j) = _
  rw [cw_b1 h]
theorem cw_cnF {P : Nat → Prop} {j : Nat} (h : ¬ P j) : cw_cn P (j + 1) = cw_cn P j := by
  show cw_cn P j + cw_b01 (P j) = _
  rw [cw_b0 h, Nat.add_zero]
theorem cw_cnle (P : Nat → Prop) : ∀ j, cw_cn P j ≤ j
  | 0 => Nat.le_refl 0
  | j + 1 => by
    have h := cw_cnle P j
    have h2 := cw_ble (P j)
    show cw_cn P j + cw_b01 (P j) ≤ _
    omega
theorem cw_cnmono (P : Nat → Prop) {i : Nat} : ∀ {j : Nat}, i ≤ j → cw_cn P i ≤ cw_cn P j
  | 0, h => by rw [Nat.le_zero.mp h]; exact Nat.le_refl _
  | j + 1, h => by
    by_cases z : i = j + 1
    · rw [z]; exact Nat.le_refl _
    · have h1 := cw_cnmono P (i := i) (j := j) (by omega)
      show _ ≤ cw_cn P j + cw_b01 (P j)
      omega
theorem cw_cncong {P Q : Nat → Prop} : ∀ j, (∀ i, i < j → (P i ↔ Q i)) → cw_cn P j = cw_cn Q j
  | 0, _ => rfl
  | j + 1, h => by
    have h1 := cw_cncong j (fun i hi => h i (by omega))
    have h2 : cw_b01 (P j) = cw_b01 (Q j) := by rw [propext (h j (by omega))]
    show cw_cn P j + cw_b01 (P j) = cw_cn Q j + cw_b01 (Q j)
    rw [h1, h2]
end
section
/-! ===== words and machines ===== -/
def cw_wd : Nat → Nat → List Nat
  | 0, _ => []
  | n + 1, b => (b / 2 ^ n % 2) :: cw_wd n b
theorem cw_wdL : ∀ n b, (cw_wd n b).length = n
  | 0, _ => rfl
  | n + 1, b => congrArg (· + 1) (cw_wdL n b)
theorem cw_dm {b n m : Nat} (h : n < m) : b % 2 ^ m / 2 ^ n % 2 = b / 2 ^ n % 2 := by
  obtain ⟨k, rfl⟩ : ∃ k, m = n + (1 + k) := ⟨m - n - 1, by omega⟩
  rw [Nat.pow_add, Nat.mod_mul_right_div_self, Nat.pow_add, Nat.pow_one, Nat.mod_mul_right_mod]
theorem cw_wdM : ∀ n m b, n ≤ m → cw_wd n (b % 2 ^ m) = cw_wd n b
  | 0, _, _, _ => rfl
  | n + 1, m, b, h => by
    show (b % 2 ^ m / 2 ^ n % 2) :: cw_wd n (b % 2 ^ m) = (b / 2 ^ n % 2) :: cw_wd n b
    rw [cw_dm (by omega), cw_wdM n m b (by omega)]
theorem cw_wdS : ∀ p r b, cw_wd (p + r) b = cw_wd p (b / 2 ^ r) ++ cw_wd r b
  | 0, r, b => by rw [Nat.zero_add]; rfl
  | p + 1, r, b => by
    have e : p + 1 + r = (p + r) + 1 := by omega
    rw [e]
    show (b / 2 ^ (p + r) % 2) :: cw_wd (p + r) b = (b / 2 ^ r / 2 ^ p % 2) :: (cw_wd p (b / 2 ^ r) ++ cw_wd r b)
    rw [cw_wdS p r b, Nat.div_div_eq_div_mul, ← Nat.pow_add, Nat.add_comm r p]
theorem cw_wdX {len bits : Nat} (A B : List Nat → Prop) : (∃ w1 w2, cw_wd len bits = w1 ++ w2 ∧ A w1 ∧ B w2) ↔ ∃ p, p ≤ len ∧ A (cw_wd p (bits / 2 ^ (len - p))) ∧ B (cw_wd (len - p) (bits % 2 ^ (len - p))) := by
  constructor
  · intro ⟨w1, w2, e, a, b⟩
    have hl : len = w1.length + w2.length := by
      have := congrArg List.length e
      rw [cw_wdL, List.length_append] at this
      exact this
    have hp : w1.length ≤ len := by omega
    have e2 : cw_wd len bits = cw_wd w1.length (bits / 2 ^ (len - w1.length)) ++ cw_wd (len - w1.length) bits := by
      have z := cw_wdS w1.length (len - w1.length) bits
      rwa [show w1.length + (len - w1.length) = len from by omega] at z
    rw [e2] at e
    obtain ⟨h1, h2⟩ := List.append_inj e (by rw [cw_wdL])
    refine ⟨w1.length, hp, ?_, ?_⟩
    · rw [h1]; exact a
    · rw [cw_wdM _ _ _ (Nat.le_refl _), h2]; exact b
  · intro ⟨p, hp, a, b⟩
    rw [cw_wdM _ _ _ (Nat.le_refl _)] at b
    refine ⟨_, _, ?_, a, b⟩
    have z := cw_wdS p (len - p) bits
    rwa [show p + (len - p) = len from by omega] at z
/-- the number of a word of digits g 0, g 1 .. -/
def cw_wv (g : Nat → Nat) : Nat → Nat
  | 0 => 0
  | t + 1 => cw_wv g t * 2 + g t
def cw_ls (g : Nat → Nat) : Nat → List Nat
  | 0 => []
  | t + 1 => cw_ls g t ++ [g t]
theorem cw_wvlt {g : Nat → Nat} (hg : ∀ t, g t < 2) : ∀ n, cw_wv g n < 2 ^ n
  | 0 => Nat.one_pos
  | n + 1 => by
    have h := cw_wvlt hg n
    have h2 := hg n
    show cw_wv g n * 2 + g n < 2 ^ (n + 1)
    rw [Nat.pow_succ]
    omega
theorem cw_wvls {g : Nat → Nat} (hg : ∀ t, g t < 2) : ∀ n, cw_wd n (cw_wv g n) = cw_ls g n
  | 0 => rfl
  | n + 1 => by
    have h2 := hg n
    rw [cw_wdS n 1]
    show cw_wd n ((cw_wv g n * 2 + g n) / 2 ^ 1) ++ [(cw_wv g n * 2 + g n) / 2 ^ 0 % 2] = cw_ls g n ++ [g n]
    rw [show (cw_wv g n * 2 + g n) / 2 ^ 1 = cw_wv g n from by omega, show (cw_wv g n * 2 + g n) / 2 ^ 0 % 2 = g n from by rw [Nat.pow_zero, Nat.div_one]; omega, cw_wvls hg n]
theorem cw_lsc {g g' : Nat → Nat} : ∀ n, (∀ t, t < n → g t = g' t) → cw_ls g n = cw_ls g' n
  | 0, _ => rfl
  | n + 1, h => by
    show cw_ls g n ++ [g n] = cw_ls g' n ++ [g' n]
    rw [cw_lsc n (fun t ht => h t (by omega)), h n (by omega)]
/-- digits of a number of n bits, first letter highest: its own word -/
theorem cw_wdls (n b : Nat) : cw_wd n b = cw_ls (fun t => b / 2 ^ (n - 1 - t) % 2) n := by
  induction n generalizing b with
  | zero => rfl
  | succ n ih =>
    rw [cw_wdS n 1, ih]
    show _ ++ [b / 2 ^ 0 % 2] = cw_ls (fun t => b / 2 ^ (n + 1 - 1 - t) % 2) n ++ [b / 2 ^ (n + 1 - 1 - n) % 2]
    rw [show n + 1 - 1 - n = 0 from by omega]
    congr 1
    apply cw_lsc
    intro t ht
    show b / 2 ^ 1 / 2 ^ (n - 1 - t) % 2 = b / 2 ^ (n + 1 - 1 - t) % 2
    rw [Nat.div_div_eq_div_mul, ← Nat.pow_add, show 1 + (n - 1 - t) = n + 1 - 1 - t from by omega]

def cw_ac (K : Nat → Nat → Prop) (Fo : Nat → Nat → Prop) (La : Nat → Prop) : List Nat → Nat → Prop
  | [], p => La p
  | v :: w, p => ∃ q, Fo p q ∧ K q v ∧ cw_ac K Fo La w q
def cw_lg (K Fo : Nat → Nat → Prop) (Fi La : Nat → Prop) (e : Prop) : List Nat → Prop
  | [] => e
  | v :: w => ∃ q, Fi q ∧ K q v ∧ cw_ac K Fo La w q
theorem cw_bis {K Fo K' Fo' : Nat → Nat → Prop} {La La' : Nat → Prop} (T : Nat → Nat → Prop)
    (hL : ∀ p p', T p p' → (La p ↔ La' p'))
    (hF : ∀ p p' q v, T p p' → Fo p q → K q v → ∃ q', T q q' ∧ Fo' p' q' ∧ K' q' v)
    (hB : ∀ p p' q' v, T p p' → Fo' p' q' → K' q' v → ∃ q, T q q' ∧ Fo p q ∧ K q v) :
    ∀ w p p', T p p' → (cw_ac K Fo La w p ↔ cw_ac K' Fo' La' w p')
  | [], p, p', h => hL p p' h
  | v :: w, p, p', h => by
    constructor
    · intro ⟨q, a, b, c⟩
      obtain ⟨q', t, a', b'⟩ := hF p p' q v h a b
      exact ⟨q', a', b', (cw_bis T hL hF hB w q q' t).mp c⟩
    · intro ⟨q', a, b, c⟩
      obtain ⟨q, t, a', b'⟩ := hB p p' q' v h a b
      exact ⟨q, a', b', (cw_bis T hL hF hB w q q' t).mpr c⟩
theorem cw_con {K Fo K' Fo' : Nat → Nat → Prop} {La La' : Nat → Prop} (P : Nat → Prop)
    (hL : ∀ p, P p → (La p ↔ La' p)) (hP : ∀ p q, P p → Fo p q → P q) (hF : ∀ p q, P p → (Fo p q ↔ Fo' p q)) (hK : ∀ q v, P q → (K q v ↔ K' q v)) :
    ∀ w p, P p → (cw_ac K Fo La w p ↔ cw_ac K' Fo' La' w p)
  | [], p, h => hL p h
  | v :: w, p, h => by
    constructor
    · intro ⟨q, a, b, c⟩
      have hq := hP p q h a
      exact ⟨q, (hF p q h).mp a, (hK q v hq).mp b, (cw_con P hL hP hF hK w q hq).mp c⟩
    · intro ⟨q, a, b, c⟩
      have a' := (hF p q h).mpr a
      have hq := hP p q h a'
      exact ⟨q, a', (hK q v hq).mpr b, (cw_con P hL hP hF hK w q hq).mpr c⟩
theorem cw_conL {K Fo K' Fo' : Nat → Nat → Prop} {La La' Fi Fi' : Nat → Prop} {e e' : Prop} (P : Nat → Prop)
    (hL : ∀ p, P p → (La p ↔ La' p)) (hP : ∀ p q, P p → Fo p q → P q) (hF : ∀ p q, P p → (Fo p q ↔ Fo' p q)) (hK : ∀ q v, P q → (K q v ↔ K' q v))
    (hI : ∀ p, Fi p ↔ Fi' p) (hIP : ∀ p, Fi p → P p) (he : e ↔ e') :
    ∀ w, (cw_lg K Fo Fi La e w ↔ cw_lg K' Fo' Fi' La' e' w)
  | [] => he
  | v :: w => by
    constructor
    · intro ⟨q, a, b, c⟩
      have hq := hIP q a
      exact ⟨q, (hI q).mp a, (hK q v hq).mp b, (cw_con P hL hP hF hK w q hq).mp c⟩
    · intro ⟨q, a, b, c⟩
      have a' := (hI q).mpr a
      have hq := hIP q a'
      exact ⟨q, a', (hK q v hq).mpr b, (cw_con P hL hP hF hK w q hq).mpr c⟩
/-! two machines side by side -/
def cw_CH (A B : Nat → Prop) (Fo : Nat → Nat → Prop) (F1 L1 F2 L2 : Nat → Prop) : Prop :=
  (∀ p, A p → B p → False) ∧ (∀ p, F1 p → A p) ∧ (∀ p, L1 p → A p) ∧ (∀ p, F2 p → B p) ∧ (∀ p, L2 p → B p) ∧ (∀ p q, A p → Fo p q → A q) ∧ (∀ p q, B p → Fo p q → B q)
theorem cw_alt {A B : Nat → Prop} {K Fo : Nat → Nat → Prop} {F1 L1 F2 L2 : Nat → Prop} {e1 e2 : Prop} (H : cw_CH A B Fo F1 L1 F2 L2) :
    ∀ w, (cw_lg K Fo (fun p => F1 p ∨ F2 p) (fun p => L1 p ∨ L2 p) (e1 ∨ e2) w ↔ cw_lg K Fo F1 L1 e1 w ∨ cw_lg K Fo F2 L2 e2 w) := by
  obtain ⟨hd, hf1, hl1, hf2, hl2, ha, hb⟩ := H
  have cA : ∀ w p, A p → (cw_ac K Fo (fun p => L1 p ∨ L2 p) w p ↔ cw_ac K Fo L1 w p) :=
    cw_con A (fun p h => ⟨fun z => z.elim id (fun y => absurd (hl2 p y) (hd p h)), Or.inl⟩) ha (fun _ _ _ => Iff.rfl) (fun _ _ _ => Iff.rfl)
  have cB : ∀ w p, B p → (cw_ac K Fo (fun p => L1 p ∨ L2 p) w p ↔ cw_ac K Fo L2 w p) :=
    cw_con B (fun p h => ⟨fun z => z.elim (fun y => absurd h (hd p (hl1 p y))) id, Or.inr⟩) hb (fun _ _ _ => Iff.rfl) (fun _ _ _ => Iff.rfl)
  intro w
  cases w with
  | nil => exact Iff.rfl
  | cons v w =>
    constructor
    · intro ⟨q, a, b, c⟩
      rcases a with a | a
      · exact Or.inl ⟨q, a, b, (cA w q (hf1 q a)).mp c⟩
      · exact Or.inr ⟨q, a, b, (cB w q (hf2 q a)).mp c⟩
    · intro z
      rcases z with ⟨q, a, b, c⟩ | ⟨q, a, b, c⟩
      · exact ⟨q, Or.inl a, b, (cA w q (hf1 q a)).mpr c⟩
      · exact ⟨q, Or.inr a, b, (cB w q (hf2 q a)).mpr c⟩
theorem cw_catA {A B : Nat → Prop} {K Fo Fo' : Nat → Nat → Prop} {F1 L1 F2 L2 : Nat → Prop} {e2 : Prop} (H : cw_CH A B Fo F1 L1 F2 L2)
    (hF : ∀ p q, Fo' p q ↔ Fo p q ∨ (L1 p ∧ F2 q)) :
    (∀ w p, B p → (cw_ac K Fo' (fun p => L2 p ∨ (e2 ∧ L1 p)) w p ↔ cw_ac K Fo L2 w p)) ∧
    (∀ w p, A p → (cw_ac K Fo' (fun p => L2 p ∨ (e2 ∧ L1 p)) w p ↔ ∃ w1 w2, w = w1 ++ w2 ∧ cw_ac K Fo L1 w1 p ∧ cw_lg K Fo F2 L2 e2 w2)) := by
  obtain ⟨hd, hf1, hl1, hf2, hl2, ha, hb⟩ := H
  have cB : ∀ w p, B p → (cw_ac K Fo' (fun p => L2 p ∨ (e2 ∧ L1 p)) w p ↔ cw_ac K Fo L2 w p) :=
    cw_con B (fun p h => ⟨fun z => z.elim id (fun y => absurd h (hd p (hl1 p y.2))), Or.inl⟩)
      (fun p q h z => ((hF p q).mp z).elim (hb p q h) (fun y => absurd h (hd p (hl1 p y.1))))
      (fun p q h => ⟨fun z => ((hF p q).mp z).elim id (fun y => absurd h (hd p (hl1 p y.1))), fun z => (hF p q).mpr (Or.inl z)⟩) (fun _ _ _ => Iff.rfl)
  refine ⟨cB, ?_⟩
  intro w
  induction w with
  | nil =>
    intro p hp
    constructor
    · intro z
      rcases z with z | ⟨z1, z2⟩
      · exact absurd (hl2 p z) (hd p hp)
      · exact ⟨[], [], rfl, z2, z1⟩
    · intro ⟨w1, w2, e, a, b⟩
      obtain ⟨rfl, rfl⟩ := List.append_eq_nil_iff.mp e.symm
      exact Or.inr ⟨b, a⟩
  | cons v w ih =>
    intro p hp
    constructor
    · intro ⟨q, a, b, c⟩
      rcases (hF p q).mp a with z | ⟨z1, z2⟩
      · obtain ⟨w1, w2, e, c1, c2⟩ := (ih q (ha p q hp z)).mp c
        exact ⟨v :: w1, w2, by rw [e]; rfl, ⟨q, z, b, c1⟩, c2⟩
      · exact ⟨[], v :: w, rfl, z1, ⟨q, z2, b, (cB w q (hf2 q z2)).mp c⟩⟩
    · intro ⟨w1, w2, e, a, b⟩
      cases w1 with
      | nil =>
        have e' : w2 = v :: w := e.symm
        subst e'
        obtain ⟨q, f, k, c⟩ := b
        exact ⟨q, (hF p q).mpr (Or.inr ⟨a, f⟩), k, (cB w q (hf2 q f)).mpr c⟩
      | cons v' w1 =>
        have e' : v = v' ∧ w = w1 ++ w2 := by
          have z : v :: w = v' :: (w1 ++ w2) := e
          exact List.cons.inj z
        obtain ⟨rfl, e2⟩ := e'
        obtain ⟨q, f, k, c⟩ := a
        exact ⟨q, (hF p q).mpr (Or.inl f), k, (ih q (ha p q hp f)).mpr ⟨w1, w2, e2, c, b⟩⟩
theorem cw_cat {A B : Nat → Prop} {K Fo Fo' : Nat → Nat → Prop} {F1 L1 F2 L2 : Nat → Prop} {e1 e2 : Prop} (H : cw_CH A B Fo F1 L1 F2 L2)
    (hF : ∀ p q, Fo' p q ↔ Fo p q ∨ (L1 p ∧ F2 q)) :
    ∀ w, (cw_lg K Fo' (fun p => F1 p ∨ (e1 ∧ F2 p)) (fun p => L2 p ∨ (e2 ∧ L1 p)) (e1 ∧ e2) w ↔ ∃ w1 w2, w = w1 ++ w2 ∧ cw_lg K Fo F1 L1 e1 w1 ∧ cw_lg K Fo F2 L2 e2 w2) := by
  obtain ⟨cB, cA⟩ := cw_catA (K := K) (e2 := e2) H hF
  obtain ⟨hd, hf1, hl1, hf2, hl2, ha, hb⟩ := H
  intro w
  cases w with
  | nil =>
    constructor
    · intro z
      exact ⟨[], [], rfl, z.1, z.2⟩
    · intro ⟨w1, w2, e, a, b⟩
      obtain ⟨rfl, rfl⟩ := List.append_eq_nil_iff.mp e.symm
      exact ⟨a, b⟩
  | cons v w =>
    constructor
    · intro ⟨q, a, b, c⟩
      rcases a with z | ⟨z1, z2⟩
      · obtain ⟨w1, w2, e, c1, c2⟩ := (cA w q (hf1 q z)).mp c
        exact ⟨v :: w1, w2, by rw [e]; rfl, ⟨q, z, b, c1⟩, c2⟩
      · exact ⟨[], v :: w, rfl, z1, ⟨q, z2, b, (cB w q (hf2 q z2)).mp c⟩⟩
    · intro ⟨w1, w2, e, a, b⟩
      cases w1 with
      | nil =>
        have e' : w2 = v :: w := e.symm
        subst e'
        obtain ⟨q, f, k, c⟩ := b
        exact ⟨q, Or.inr ⟨a, f⟩, k, (cB w q (hf2 q f)).mpr c⟩
      | cons v' w1 =>
        have e' : v = v' ∧ w = w1 ++ w2 := by
          have z : v :: w = v' :: (w1 ++ w2) := e
          exact List.cons.inj z
        obtain ⟨rfl, e2⟩ := e'
        obtain ⟨q, f, k, c⟩ := a
        exact ⟨q, Or.inl f, k, (cA w q (hf1 q f)).mpr ⟨w1, w2, e2, c, b⟩⟩
/-! chains of words -/
def cw_ch (L : List Nat → Prop) (w : List Nat) : Prop := ∃ ws : List (List Nat), (∀ x, x ∈ ws → x ≠ [] ∧ L x) ∧ w = ws.flatten
theorem cw_chN (L : List Nat → Prop) : cw_ch L [] := ⟨[], fun x h => absurd h List.not_mem_nil, rfl⟩
theorem cw_chC {L : List Nat → Prop} {w1 w2 : List Nat} (h1 : w1 ≠ []) (h2 : L w1) (h3 : cw_ch L w2) : cw_ch L (w1 ++ w2) := by
  obtain ⟨ws, h, rfl⟩ := h3
  refine ⟨w1 :: ws, fun x hx => ?_, by rw [List.flatten_cons]⟩
  rcases List.mem_cons.mp hx with z | z
  · rw [z]; exact ⟨h1, h2⟩
  · exact h x z
theorem cw_chD {L : List Nat → Prop} {w : List Nat} (h : cw_ch L w) (hw : w ≠ []) : ∃ w1 w2, w = w1 ++ w2 ∧ (w1 ≠ [] ∧ L w1) ∧ cw_ch L w2 := by
  obtain ⟨ws, h, rfl⟩ := h
  cases ws with
  | nil => exact absurd rfl hw
  | cons x ws =>
    exact ⟨x, ws.flatten, List.flatten_cons, h x (List.mem_cons.mpr (Or.inl rfl)), ⟨ws, fun y hy => h y (List.mem_cons.mpr (Or.inr hy)), rfl⟩⟩
theorem cw_starA {K Fo Fo' : Nat → Nat → Prop} {F L : Nat → Prop} {e : Prop} (hF : ∀ p q, Fo' p q ↔ Fo p q ∨ (L p ∧ F q)) :
    ∀ w p, (cw_ac K Fo' L w p ↔ ∃ w1 w2, w = w1 ++ w2 ∧ cw_ac K Fo L w1 p ∧ cw_ch (cw_lg K Fo F L e) w2) := by
  intro w
  induction w with
  | nil =>
    intro p
    constructor
    · intro z
      exact ⟨[], [], rfl, z, cw_chN _⟩
    · intro ⟨w1, w2, e, a, b⟩
      obtain ⟨rfl, rfl⟩ := List.append_eq_nil_iff.mp e.symm
      exact a
  | cons v w ih =>
    intro p
    constructor
    · intro ⟨q, a, b, c⟩
      obtain ⟨w1, w2, e, c1, c2⟩ := (ih q).mp c
      rcases (hF p q).mp a with z | ⟨z1, z2⟩
      · exact ⟨v :: w1, w2, by rw [e]; rfl, ⟨q, z, b, c1⟩, c2⟩
      · refine ⟨[], v :: w, rfl, z1, ?_⟩
        rw [e]
        exact cw_chC (w1 := v :: w1) (List.cons_ne_nil _ _) ⟨q, z2, b, c1⟩ c2
    · intro ⟨w1, w2, e, a, b⟩
      cases w1 with
      | nil =>
        have e' : w2 = v :: w := e.symm
        subst e'
        obtain ⟨x, y, e1, ⟨hx, hl⟩, hy⟩ := cw_chD b (List.cons_ne_nil _ _)
        cases x with
        | nil => exact absurd rfl hx
        | cons v' x =>
          have e' : v = v' ∧ w = x ++ y := by
            have z : v :: w = v' :: (x ++ y) := e1
            exact List.cons.inj z
          obtain ⟨rfl, e2⟩ := e'
          obtain ⟨q, f, k, c⟩ := hl
          exact ⟨q, (hF p q).mpr (Or.inr ⟨a, f⟩), k, (ih q).mpr ⟨x, y, e2, c, hy⟩⟩
      | cons v' w1 =>
        have e' : v = v' ∧ w = w1 ++ w2 := by
          have z : v :: w = v' :: (w1 ++ w2) := e
          exact List.cons.inj z
        obtain ⟨rfl, e2⟩ := e'
        obtain ⟨q, f, k, c⟩ := a
        exact ⟨q, (hF p q).mpr (Or.inl f), k, (ih q).mpr ⟨w1, w2, e2, c, b⟩⟩
theorem cw_star {K Fo Fo' : Nat → Nat → Prop} {F L : Nat → Prop} {e e' : Prop} (he : e') (hF : ∀ p q, Fo' p q ↔ Fo p q ∨ (L p ∧ F q)) :
    ∀ w, (cw_lg K Fo' F L e' w ↔ cw_ch (cw_lg K Fo F L e) w) := by
  intro w
  cases w with
  | nil => exact ⟨fun _ => cw_chN _, fun _ => he⟩
  | cons v w =>
    constructor
    · intro ⟨q, a, b, c⟩
      obtain ⟨w1, w2, e1, c1, c2⟩ := (cw_starA (e := e) hF w q).mp c
      rw [e1]
      exact cw_chC (w1 := v :: w1) (List.cons_ne_nil _ _) ⟨q, a, b, c1⟩ c2
    · intro b
      obtain ⟨x, y, e1, ⟨hx, hl⟩, hy⟩ := cw_chD b (List.cons_ne_nil _ _)
      cases x with
      | nil => exact absurd rfl hx
      | cons v' x =>
        have e' : v = v' ∧ w = x ++ y := by
          have z : v :: w = v' :: (x ++ y) := e1
          exact List.cons.inj z
        obtain ⟨rfl, e2⟩ := e'
        obtain ⟨q, f, k, c⟩ := hl
        exact ⟨q, f, k, (cw_starA (e := e) hF w q).mpr ⟨x, y, e2, c, hy⟩⟩
theorem cw_chS {L : List Nat → Prop} {len bits : Nat} (h : 1 ≤ len) : cw_ch L (cw_wd len bits) ↔ ∃ p, 1 ≤ p ∧ p ≤ len ∧ L (cw_wd p (bits / 2 ^ (len - p))) ∧ cw_ch L (cw_wd (len - p) (bits % 2 ^ (len - p))) := by
  have hne : ∀ n b, 1 ≤ n → cw_wd n b ≠ [] := by
    intro n b hn z
    have := congrArg List.length z
    rw [cw_wdL] at this
    have h0 : ([] : List Nat).length = 0 := rfl
    omega
  constructor
  · intro z
    obtain ⟨p, hp, ⟨a1, a2⟩, b⟩ := (cw_wdX (fun w => w ≠ [] ∧ L w) (cw_ch L)).mp (cw_chD z (hne _ _ h))
    refine ⟨p, ?_, hp, a2, b⟩
    rcases Nat.eq_zero_or_pos p with y | y
    · subst y; exact absurd rfl a1
    · exact y
  · intro ⟨p, h1, hp, a, b⟩
    obtain ⟨w1, w2, e, ⟨a1, a2⟩, b⟩ := (cw_wdX (fun w => w ≠ [] ∧ L w) (cw_ch L)).mpr ⟨p, hp, ⟨hne _ _ h1, a⟩, b⟩
    rw [e]
    exact cw_chC a1 a2 b
/-! the other way round -/
theorem cw_rev1 {K Fo Fo' : Nat → Nat → Prop} {F L P : Nat → Prop} {e e' : Prop} (he : e → e') (hI : ∀ q, F q → P q) (hP : ∀ p q, P p → Fo p q → P q) (hF : ∀ p q, P p → Fo p q → Fo' q p) :
    ∀ w : List Nat, w.length ≤ 4 → cw_lg K Fo F L e w → cw_lg K Fo' L F e' w.reverse
  | [], _, h => he h
  | [_], _, h => by
    obtain ⟨q1, f, k1, l⟩ := h
    exact ⟨q1, l, k1, f⟩
  | [_, _], _, h => by
    obtain ⟨q1, f, k1, q2, o1, k2, l⟩ := h
    exact ⟨q2, l, k2, q1, hF _ _ (hI _ f) o1, k1, f⟩
  | [_, _, _], _, h => by
    obtain ⟨q1, f, k1, q2, o1, k2, q3, o2, k3, l⟩ := h
    have p1 := hI _ f
    have p2 := hP _ _ p1 o1
    exact ⟨q3, l, k3, q2, hF _ _ p2 o2, k2, q1, hF _ _ p1 o1, k1, f⟩
  | [_, _, _, _], _, h => by
    obtain ⟨q1, f, k1, q2, o1, k2, q3, o2, k3, q4, o3, k4, l⟩ := h
    have p1 := hI _ f
    have p2 := hP _ _ p1 o1
    have p3 := hP _ _ p2 o2
    exact ⟨q4, l, k4, q3, hF _ _ p3 o3, k3, q2, hF _ _ p2 o2, k2, q1, hF _ _ p1 o1, k1, f⟩
  | _ :: _ :: _ :: _ :: _ :: w, h, _ => by
    have h' : w.length + 5 ≤ 4 := h
    omega
end
section
/-! ===== the reference: sets of words ===== -/
theorem cw_16 {len : Nat} (hl : len ≤ 4) : 1 ≤ 2 ^ len ∧ 2 ^ len ≤ 16 :=
  ⟨Nat.two_pow_pos len, Nat.pow_le_pow_right (n := 2) (by decide) hl⟩
theorem cw_dlt {len p bits : Nat} (hp : p ≤ len) (hb : bits < 2 ^ len) : bits / 2 ^ (len - p) < 2 ^ p := by
  apply Nat.div_lt_of_lt_mul
  rw [← Nat.pow_add, show len - p + p = len from by omega]
  exact hb
/-- some cut of the word, at least or later, into a word of x and a word of y -/
def cw_SP (x y : Int32) (least len bits : Nat) : Prop := ∃ p, least ≤ p ∧ p ≤ len ∧ bt x (2 ^ p - 1 + bits / 2 ^ (len - p)) = true ∧ bt y (2 ^ (len - p) - 1 + bits % 2 ^ (len - p)) = true
theorem cw_ixi {l b m c : Nat} (hb : b < 2 ^ l) (hc : c < 2 ^ m) (h : 2 ^ l - 1 + b = 2 ^ m - 1 + c) : l = m ∧ b = c := by
  have h1 := Nat.two_pow_pos l
  have h2 := Nat.two_pow_pos m
  rcases Nat.lt_trichotomy l m with z | z | z
  · have := Nat.pow_le_pow_right (n := 2) (by decide) (show l + 1 ≤ m from z)
    rw [Nat.pow_succ] at this
    omega
  · subst z
    exact ⟨rfl, by omega⟩
  · have := Nat.pow_le_pow_right (n := 2) (by decide) (show m + 1 ≤ l from z)
    rw [Nat.pow_succ] at this
    omega
/-- the set holds the wanted words below (len, bits) -/
def cw_IV (T : Nat → Nat → Prop) (len bits : Nat) (s : Int32) : Prop :=
  ∀ l b, l ≤ 4 → b < 2 ^ l → (bt s (2 ^ l - 1 + b) = true ↔ (2 ^ l - 1 + b < 2 ^ len - 1 + bits ∧ T l b))
theorem cw_IV0 (T : Nat → Nat → Prop) : cw_IV T 0 0 0 := by
  intro l b _ _
  rw [b_0]
  constructor
  · intro h; exact absurd h (by decide)
  · intro ⟨h, _⟩
    rw [Nat.pow_zero] at h
    omega
theorem cw_IV1 {T : Nat → Nat → Prop} (h0 : T 0 0) : cw_IV T 1 0 1 := by
  intro l b _ hb
  rw [cw_oneA, decide_eq_true_iff, Nat.pow_one]
  constructor
  · intro h
    have z := cw_ixi (m := 0) (c := 0) hb (by decide) (by rw [h])
    rw [z.1, z.2]
    exact ⟨by decide, h0⟩
  · intro ⟨h, _⟩
    omega
theorem cw_IVe {T : Nat → Nat → Prop} {s : Int32} (h : cw_IV T 5 0 s) (l b : Nat) (hl : l ≤ 4) (hb : b < 2 ^ l) : bt s (2 ^ l - 1 + b) = true ↔ T l b := by
  have h1 := cw_16 hl
  rw [h l b hl hb]
  constructor
  · exact fun z => z.2
  · intro z
    refine ⟨?_, z⟩
    rw [show (2 : Nat) ^ 5 = 32 from rfl]
    omega
theorem cw_IVn {T : Nat → Nat → Prop} {len : Nat} {s : Int32} (h : cw_IV T len (2 ^ len) s) : cw_IV T (len + 1) 0 s := by
  intro l b hl hb
  have h1 := Nat.two_pow_pos len
  rw [h l b hl hb, Nat.pow_succ, show 2 ^ len * 2 - 1 + 0 = 2 ^ len - 1 + 2 ^ len from by omega]
theorem cw_IVf {T : Nat → Nat → Prop} {len bits : Nat} {s : Int32} (h : cw_IV T len bits s) (hb : bits < 2 ^ len) (hT : ¬ T len bits) : cw_IV T len (bits + 1) s := by
  intro l b hl hb2
  rw [h l b hl hb2]
  constructor
  · intro z; exact ⟨by omega, z.2⟩
  · intro z
    refine ⟨?_, z.2⟩
    have z1 := z.1
    by_cases y : 2 ^ l - 1 + b = 2 ^ len - 1 + bits
    · obtain ⟨rfl, rfl⟩ := cw_ixi hb2 hb y
      exact absurd z.2 hT
    · omega
theorem cw_IVt {T : Nat → Nat → Prop} {len bits : Nat} {s : Int32} (h : cw_IV T len bits s) (hl4 : len ≤ 4) (hb : bits < 2 ^ len) (hT : T len bits) : cw_IV T len (bits + 1) (s ||| (1 : Int32) <<< (nI (2 ^ len - 1 + bits) &&& 31)) := by
  have h16 := cw_16 hl4
  intro l b hl hb2
  rw [cw_orT, cw_bitT (by omega), h l b hl hb2]
  constructor
  · intro z
    rcases z with z | z
    · exact ⟨by omega, z.2⟩
    · obtain ⟨rfl, rfl⟩ := cw_ixi hb2 hb z
      exact ⟨by omega, hT⟩
  · intro z
    have z1 := z.1
    by_cases y : 2 ^ l - 1 + b = 2 ^ len - 1 + bits
    · exact Or.inr y
    · exact Or.inl ⟨by omega, z.2⟩
section
variable {y_depth y_rows y_columns : Int32} {y_stack y_lc y_lines y_pins : Nat → Int32}
theorem cy_ix {len bits : Nat} (hl : len ≤ 4) : (((1 : Int32) <<< (nI len &&& 31)) - 1) + nI bits = nI (2 ^ len - 1 + bits) := by
  rw [cw_pw (by omega), cw_s1 (Nat.two_pow_pos len), nI_add]
theorem cy_holds {post : Int32 → Prop} {x : Int32} {len bits : Nat} (hl : len ≤ 4) (hb : bits < 2 ^ len) (h1 : bt x (2 ^ len - 1 + bits) = true → post 1) (h0 : ¬ bt x (2 ^ len - 1 + bits) = true → post 0) : wpY_holds post (y_depth, y_rows, y_columns, y_stack, y_lc, y_lines, y_pins) x (nI len) (nI bits) := by
  have h16 := cw_16 hl
  unfold wpY_holds
  dsimp only
  rw [cy_ix hl]
  exact cw_if (cw_test (by omega)) h1 h0
theorem cy_word {post : Int32 → Prop} {len bits : Nat} (hl : len ≤ 4) (h : post ((1 : Int32) <<< (nI (2 ^ len - 1 + bits) &&& 31))) : wpY_word post (y_depth, y_rows, y_columns, y_stack, y_lc, y_lines, y_pins) (nI len) (nI bits) := by
  unfold wpY_word
  dsimp only
  rw [cy_ix hl]
  exact h
theorem cy_spl {post : Int32 → Prop} {x y : Int32} {len bits : Nat} (hl : len ≤ 4) (hb : bits < 2 ^ len) :
    ∀ d p, p + d = len + 1 → (cw_SP x y p len bits → post 1) → (¬ cw_SP x y p len bits → post 0) → wY_splits_3 post x y (nI len) (nI bits) y_depth y_rows y_columns y_stack y_lc y_lines y_pins (d + 1) (nI p) := by
  have h16 := cw_16 hl
  intro d
  induction d with
  | zero =>
    intro p hp h1 h0
    have z : nI len < nI p := nI_lt (by omega) (by omega)
    exact br_t z (h0 (fun ⟨q, a, b, _⟩ => by omega))
  | succ d ih =>
    intro p hp h1 h0
    have z : ¬ nI len < nI p := nI_nlt (by omega) (by omega)
    have next : ¬ (bt x (2 ^ p - 1 + bits / 2 ^ (len - p)) = true ∧ bt y (2 ^ (len - p) - 1 + bits % 2 ^ (len - p)) = true) → wY_splits_3 post x y (nI len) (nI bits) y_depth y_rows y_columns y_stack y_lc y_lines y_pins (d + 1) (nI (p + 1)) := by
      intro hn
      have e : cw_SP x y p len bits ↔ cw_SP x y (p + 1) len bits := by
        constructor
        · intro ⟨q, a, b, c⟩
          by_cases y : q = p
          · subst y; exact absurd c hn
          · exact ⟨q, by omega, b, c⟩
        · intro ⟨q, a, b, c⟩
          exact ⟨q, by omega, b, c⟩
      exact ih (p + 1) (by omega) (fun s => h1 (e.mpr s)) (fun s => h0 (fun t => s (e.mp t)))
    refine br_f z (nm_r (e' := nI (len - p)) (pk_sub (by omega)) ?_)
    rw [cw_dv (a := bits) (s := len - p) (by omega) (by omega), cw_mk (a := bits) (r := len - p) (by omega)]
    refine cy_holds (by omega) (cw_dlt (by omega) hb) (fun a => ?_) (fun a => ?_)
    · refine br_f (by decide) (cy_holds (by omega) (Nat.mod_lt _ (Nat.two_pow_pos _)) (fun b => ?_) (fun b => ?_))
      · exact br_f (by decide) (h1 ⟨p, by omega, by omega, a, b⟩)
      · exact br_t rfl (nm_r (nI_1 p) (next (fun t => b t.2)))
    · exact br_t rfl (nm_r (nI_1 p) (next (fun t => a t.1)))
theorem cy_splits {post : Int32 → Prop} {x y : Int32} {least len bits : Nat} (hl : len ≤ 4) (hb : bits < 2 ^ len) (hp : least ≤ len + 1) (h1 : cw_SP x y least len bits → post 1) (h0 : ¬ cw_SP x y least len bits → post 0) : wpY_splits post (y_depth, y_rows, y_columns, y_stack, y_lc, y_lines, y_pins) x y (nI least) (nI len) (nI bits) :=
  ⟨len + 1 - least + 1, cy_spl hl hb (len + 1 - least) least (by omega) h1 h0⟩
theorem cy_products {post : Int32 → Prop} {x y : Int32} (T : Nat → Nat → Prop) (hT : ∀ len bits, len ≤ 4 → bits < 2 ^ len → (T len bits ↔ cw_SP x y 0 len bits))
    (H : ∀ s, (∀ l b, l ≤ 4 → b < 2 ^ l → (bt s (2 ^ l - 1 + b) = true ↔ T l b)) → post s) : wpY_products post (y_depth, y_rows, y_columns, y_stack, y_lc, y_lines, y_pins) x y := by
  show ∃ n5 : Nat, wY_products_5 post x y y_depth y_rows y_columns y_stack y_lc y_lines y_pins n5 0 0
  refine loop_0 (fun n i s => wY_products_5 post x y y_depth y_rows y_columns y_stack y_lc y_lines y_pins n s (nI i)) (fun i s => cw_IV T i 0 s) 5 0 (cw_IV0 T) ?_ ?_
  · intro n s hI
    exact br_t (nI_lt (a := 4) (b := 5) (by omega) (by omega)) (H s (cw_IVe hI))
  · intro n i s hi hI K
    have h16 := cw_16 (len := i) (by omega)
    refine br_f (nI_nlt (a := 4) (b := i) (by omega) (by omega)) ?_
    refine loop_0 (fun n' b s => wY_products_14 post (wY_products_5 post x y y_depth y_rows y_columns y_stack y_lc y_lines y_pins n) x y (nI i) y_depth y_rows y_columns y_stack y_lc y_lines y_pins n' s (nI b)) (fun b s => cw_IV T i b s) (2 ^ i) s hI ?_ ?_
    · intro m s hI
      refine br_t ?_ (nm_r (nI_1 i) (K s (cw_IVn hI)))
      rw [cw_pw (by omega)]
      exact nI_le (Nat.le_refl _) (by omega)
    · intro m b s hb hI K2
      refine br_f ?_ ?_
      · rw [cw_pw (by omega)]
        exact nI_ge hb (by omega)
      · refine cy_splits (least := 0) (by omega) hb (by omega) (fun hs => ?_) (fun hs => ?_)
        · exact br_f (by decide) (cy_word (by omega) (nm_e (nm_r (nI_1 b) (K2 _ (cw_IVt hI (by omega) hb ((hT i b (by omega) hb).mpr hs))))))
        · exact br_t rfl (nm_r (nI_1 b) (K2 _ (cw_IVf hI hb (fun t => hs ((hT i b (by omega) hb).mp t)))))
theorem cy_chains {post : Int32 → Prop} {x : Int32} (T : Nat → Nat → Prop) (h0 : T 0 0) (hT : ∀ len bits s, 1 ≤ len → len ≤ 4 → bits < 2 ^ len → cw_IV T len bits s → (T len bits ↔ cw_SP x s 1 len bits))
    (H : ∀ s, (∀ l b, l ≤ 4 → b < 2 ^ l → (bt s (2 ^ l - 1 + b) = true ↔ T l b)) → post s) : wpY_chains post (y_depth, y_rows, y_columns, y_stack, y_lc, y_lines, y_pins) x := by
  show ∃ n4 : Nat, wY_chains_4 post x y_depth y_rows y_columns y_stack y_lc y_lines y_pins n4 1 1
  refine pk_loop (fun n i s => wY_chains_4 post x y_depth y_rows y_columns y_stack y_lc y_lines y_pins n s (nI i)) (fun i s => 1 ≤ i ∧ cw_IV T i 0 s) 5 1 1 (by omega) ⟨by omega, cw_IV1 h0⟩ ?_ ?_
  · intro n s hI
    exact br_t (nI_lt (a := 4) (b := 5) (by omega) (by omega)) (H s (cw_IVe hI.2))
  · intro n i s hi ⟨h1, hI⟩ K
    have h16 := cw_16 (len := i) (by omega)
    refine br_f (nI_nlt (a := 4) (b := i) (by omega) (by omega)) ?_
    refine loop_0 (fun n' b s => wY_chains_12 post (wY_chains_4 post x y_depth y_rows y_columns y_stack y_lc y_lines y_pins n) x (nI i) y_depth y_rows y_columns y_stack y_lc y_lines y_pins n' s (nI b)) (fun b s => cw_IV T i b s) (2 ^ i) s hI ?_ ?_
    · intro m s hI
      refine br_t ?_ (nm_r (nI_1 i) (K s ⟨by omega, cw_IVn hI⟩))
      rw [cw_pw (by omega)]
      exact nI_le (Nat.le_refl _) (by omega)
    · intro m b s hb hI K2
      refine br_f ?_ ?_
      · rw [cw_pw (by omega)]
        exact nI_ge hb (by omega)
      · refine cy_splits (least := 1) (by omega) hb (by omega) (fun hs => ?_) (fun hs => ?_)
        · exact br_f (by decide) (cy_word (by omega) (nm_e (nm_r (nI_1 b) (K2 _ (cw_IVt hI (by omega) hb ((hT i b s h1 (by omega) hb hI).mpr hs))))))
        · exact br_t rfl (nm_r (nI_1 b) (K2 _ (cw_IVf hI hb (fun t => hs ((hT i b s h1 (by omega) hb hI).mp t)))))
/-- the word read from its end -/
def cw_mir (len bits : Nat) : Nat := cw_wv (fun i => bits / 2 ^ i % 2) len
theorem cw_mirlt (len bits : Nat) : cw_mir len bits < 2 ^ len := cw_wvlt (fun i => Nat.mod_lt _ (by decide)) len
theorem cw_mirw {len : Nat} (hl : len ≤ 4) (bits : Nat) : cw_wd len (cw_mir len bits) = (cw_wd len bits).reverse := by
  unfold cw_mir
  rw [cw_wvls (fun i => Nat.mod_lt _ (by decide)), cw_wdls]
  have h : len = 0 ∨ len = 1 ∨ len = 2 ∨ len = 3 ∨ len = 4 := by omega
  rcases h with rfl | rfl | rfl | rfl | rfl <;> rfl
theorem cy_mirrored {post : Int32 → Prop} {len bits : Nat} (hl : len ≤ 4) (hb : bits < 2 ^ len) (h : post (nI (cw_mir len bits))) : wpY_mirrored post (y_depth, y_rows, y_columns, y_stack, y_lc, y_lines, y_pins) (nI len) (nI bits) := by
  have h16 := cw_16 hl
  show ∃ n5 : Nat, wY_mirrored_5 post (nI len) (nI bits) y_depth y_rows y_columns y_stack y_lc y_lines y_pins n5 0 0
  refine loop_0 (fun n i s => wY_mirrored_5 post (nI len) (nI bits) y_depth y_rows y_columns y_stack y_lc y_lines y_pins n s (nI i)) (fun i s => s = nI (cw_wv (fun i => bits / 2 ^ i % 2) i)) len 0 rfl ?_ ?_
  · intro n s hI
    subst hI
    exact br_t (nI_le (Nat.le_refl _) (by omega)) h
  · intro n i s hi hI K
    subst hI
    refine br_f (nI_ge hi (by omega)) (nm_r ?_ (nm_r (nI_1 i) (K _ rfl)))
    rw [cw_dg (by omega) (by omega)]
    show _ * nI 2 + _ = _
    rw [pk_mul, nI_add]
    rfl
theorem cy_mirrors {post : Int32 → Prop} {x : Int32} (T : Nat → Nat → Prop) (hT : ∀ len bits, len ≤ 4 → bits < 2 ^ len → (T len bits ↔ bt x (2 ^ len - 1 + cw_mir len bits) = true))
    (H : ∀ s, (∀ l b, l ≤ 4 → b < 2 ^ l → (bt s (2 ^ l - 1 + b) = true ↔ T l b)) → post s) : wpY_mirrors post (y_depth, y_rows, y_columns, y_stack, y_lc, y_lines, y_pins) x := by
  show ∃ n4 : Nat, wY_mirrors_4 post x y_depth y_rows y_columns y_stack y_lc y_lines y_pins n4 0 0
  refine loop_0 (fun n i s => wY_mirrors_4 post x y_depth y_rows y_columns y_stack y_lc y_lines y_pins n s (nI i)) (fun i s => cw_IV T i 0 s) 5 0 (cw_IV0 T) ?_ ?_
  · intro n s hI
    exact br_t (nI_lt (a := 4) (b := 5) (by omega) (by omega)) (H s (cw_IVe hI))
  · intro n i s hi hI K
    have h16 := cw_16 (len := i) (by omega)
    refine br_f (nI_nlt (a := 4) (b := i) (by omega) (by omega)) ?_
    refine loop_0 (fun n' b s => wY_mirrors_12 post (wY_mirrors_4 post x y_depth y_rows y_columns y_stack y_lc y_lines y_pins n) x (nI i) y_depth y_rows y_columns y_stack y_lc y_lines y_pins n' s (nI b)) (fun b s => cw_IV T i b s) (2 ^ i) s hI ?_ ?_
    · intro m s hI
      refine br_t ?_ (nm_r (nI_1 i) (K s (cw_IVn hI)))
      rw [cw_pw (by omega)]
      exact nI_le (Nat.le_refl _) (by omega)
    · intro m b s hb hI K2
      refine br_f ?_ ?_
      · rw [cw_pw (by omega)]
        exact nI_ge hb (by omega)
      · refine cy_mirrored (by omega) hb (cy_holds (by omega) (cw_mirlt i b) (fun hs => ?_) (fun hs => ?_))
        · exact br_f (by decide) (cy_word (by omega) (nm_e (nm_r (nI_1 b) (K2 _ (cw_IVt hI (by omega) hb ((hT i b (by omega) hb).mpr hs))))))
        · exact br_t rfl (nm_r (nI_1 b) (K2 _ (cw_IVf hI hb (fun t => hs ((hT i b (by omega) hb).mp t)))))
theorem cy_letters {post : Int32 → Prop} {h : Nat} {lo : Nat → Nat} (hh : h ≤ 6) (h0 : lo 0 = 0) (hm : ∀ i, i < h → lo i ≤ lo (i + 1) ∧ y_lc i = nI (lo (i + 1) - lo i)) (H : post (nI (lo h))) : wpY_letters post (nI h, y_rows, y_columns, y_stack, y_lc, y_lines, y_pins) := by
  show ∃ n4 : Nat, wY_letters_4 post (nI h) y_rows y_columns y_stack y_lc y_lines y_pins n4 0 0
  refine loop_0 (fun n i s => wY_letters_4 post (nI h) y_rows y_columns y_stack y_lc y_lines y_pins n s (nI i)) (fun i s => s = nI (lo i)) h 0 (by rw [h0]; rfl) ?_ ?_
  · intro n s hI
    subst hI
    exact br_t (nI_le (Nat.le_refl _) (by omega)) H
  · intro n i s hi hI K
    subst hI
    obtain ⟨m1, m2⟩ := hm i hi
    refine br_f (nI_ge hi (by omega)) ⟨vp_in_nI (by omega) (by omega), nm_r (e' := nI (lo (i + 1))) ?_ (nm_r (nI_1 i) (K _ rfl))⟩
    rw [nI_clamp (by omega), m2, nI_add]
    exact congrArg nI (by omega)
end
end
section
/-! ===== the reference: questions ===== -/
def cw_RC (R C : Nat) : Prop := 1 ≤ R ∧ R ≤ 3 ∧ 1 ≤ C ∧ C ≤ 4
def cw_dig (N n d : Nat) : Nat := n / 2 ^ (N - 1 - d) % 2
theorem cw_digl (N n d : Nat) : cw_dig N n d < 2 := Nat.mod_lt _ (by decide)
def cw_cl (R C l t : Nat) : Nat := if l < R then l * C + t else t * C + (l - R)
def cw_ln (R C l : Nat) : Nat := if l < R then C else R
theorem cw_rc {r c R C : Nat} (hr : r < R) (hc : c < C) : r * C + c < R * C := by
  have h := Nat.mul_le_mul_right C (show r + 1 ≤ R from hr)
  rw [Nat.add_mul, Nat.one_mul] at h
  omega
theorem cw_N12 {R C : Nat} (h : cw_RC R C) : 1 ≤ R * C ∧ R * C ≤ 12 := by
  obtain ⟨h1, h2, h3, h4⟩ := h
  have a := Nat.mul_le_mul h2 h4
  have b := Nat.mul_le_mul h1 h3
  omega
theorem cw_2N {R C : Nat} (h : cw_RC R C) : 1 ≤ 2 ^ (R * C) ∧ 2 ^ (R * C) ≤ 4096 :=
  ⟨Nat.two_pow_pos _, Nat.pow_le_pow_right (n := 2) (by decide) (cw_N12 h).2⟩
theorem cw_ln4 {R C : Nat} (h : cw_RC R C) (l : Nat) : 1 ≤ cw_ln R C l ∧ cw_ln R C l ≤ 4 := by
  obtain ⟨h1, h2, h3, h4⟩ := h
  unfold cw_ln
  by_cases z : l < R
  · rw [if_pos z]; omega
  · rw [if_neg z]; omega
theorem cw_clr {R C l : Nat} (h : l < R) (t : Nat) : cw_cl R C l t = l * C + t := if_pos h
theorem cw_clc {R C l : Nat} (h : ¬ l < R) (t : Nat) : cw_cl R C l t = t * C + (l - R) := if_neg h
theorem cw_lnr {R C l : Nat} (h : l < R) : cw_ln R C l = C := if_pos h
theorem cw_lnc {R C l : Nat} (h : ¬ l < R) : cw_ln R C l = R := if_neg h
theorem cw_clN {R C l t : Nat} (hl : l < R + C) (ht : t < cw_ln R C l) : cw_cl R C l t < R * C := by
  by_cases z : l < R
  · rw [cw_clr z]
    rw [cw_lnr z] at ht
    exact cw_rc z ht
  · rw [cw_clc z]
    rw [cw_lnc z] at ht
    exact cw_rc ht (by omega)
/-- the word of line l in number n -/
def cw_g (R C n l t : Nat) : Nat := cw_dig (R * C) n (cw_cl R C l t)
theorem cw_gl (R C n l t : Nat) : cw_g R C n l t < 2 := cw_digl _ _ _
def cw_okc (R C : Nat) (yp : Nat → Int32) (n r c : Nat) : Prop := yp (r * 4 + c) = 2 ∨ yp (r * 4 + c) = nI (cw_dig (R * C) n (r * C + c))
def cw_PY (R C : Nat) (yp : Nat → Int32) (n : Nat) : Prop := ∀ r, r < R → ∀ c, c < C → cw_okc R C yp n r c
def cw_LY (R C : Nat) (li : Nat → Int32) (n l : Nat) : Prop := bt (li l) (2 ^ cw_ln R C l - 1 + cw_wv (cw_g R C n l) (cw_ln R C l)) = true
def cw_FY (R C : Nat) (yp li : Nat → Int32) (n : Nat) : Prop := cw_PY R C yp n ∧ ∀ l, l < R + C → cw_LY R C li n l
section
variable {y_depth y_rows y_columns : Int32} {y_stack y_lc y_lines y_pins : Nat → Int32}
theorem cy_isCellT {post : Int32 → Prop} {R C r c : Nat} (hrc : cw_RC R C) (hr : r < R) (hc : c < C) (h : post 1) : wpY_isCell post (y_depth, nI R, nI C, y_stack, y_lc, y_lines, y_pins) (nI r) (nI c) := by
  obtain ⟨h1, h2, h3, h4⟩ := hrc
  exact br_f (nI_pos (by omega)) (br_f (nI_ge hr (by omega)) (br_f (nI_pos (by omega)) (br_f (nI_ge hc (by omega)) h)))
theorem cy_isCellF {post : Int32 → Prop} {R C : Nat} {p0 p1 : Int32} (hrc : cw_RC R C) (hn : ¬ ∃ r c, r < R ∧ c < C ∧ p0 = nI r ∧ p1 = nI c) (h : post 0) : wpY_isCell post (y_depth, nI R, nI C, y_stack, y_lc, y_lines, y_pins) p0 p1 := by
  obtain ⟨h1, h2, h3, h4⟩ := hrc
  refine br_c (fun _ => h) (fun a => br_c (fun _ => h) (fun b => br_c (fun _ => h) (fun c => br_c (fun _ => h) (fun d => ?_))))
  obtain ⟨r, hr, rfl⟩ := nI_of a
  obtain ⟨q, hq, rfl⟩ := nI_of c
  rw [nI_leI (by omega) hr] at b
  rw [nI_leI (by omega) hq] at d
  exact absurd ⟨r, q, by omega, by omega, rfl, rfl⟩ hn
theorem cy_isLineT {post : Int32 → Prop} {R C l : Nat} (hrc : cw_RC R C) (hl : l < R + C) (h : post 1) : wpY_isLine post (y_depth, nI R, nI C, y_stack, y_lc, y_lines, y_pins) (nI l) := by
  obtain ⟨h1, h2, h3, h4⟩ := hrc
  refine br_f (nI_pos (by omega)) (br_f ?_ h)
  rw [nI_add]
  exact nI_ge hl (by omega)
theorem cy_isLineF {post : Int32 → Prop} {R C : Nat} {p0 : Int32} (hrc : cw_RC R C) (hn : ¬ ∃ l, l < R + C ∧ p0 = nI l) (h : post 0) : wpY_isLine post (y_depth, nI R, nI C, y_stack, y_lc, y_lines, y_pins) p0 := by
  obtain ⟨h1, h2, h3, h4⟩ := hrc
  refine br_c (fun _ => h) (fun a => br_c (fun _ => h) (fun b => ?_))
  obtain ⟨r, hr, rfl⟩ := nI_of a
  rw [nI_add, nI_leI (by omega) hr] at b
  exact absurd ⟨r, by omega, rfl⟩ hn
theorem cy_cellOf {post : Int32 → Prop} {R C n r c : Nat} (hrc : cw_RC R C) (hn : n < 2 ^ 31) (hr : r < R) (hc : c < C) (h : post (nI (cw_dig (R * C) n (r * C + c)))) : wpY_cellOf post (y_depth, nI R, nI C, y_stack, y_lc, y_lines, y_pins) (nI n) (nI r) (nI c) := by
  have hN := cw_N12 hrc
  have hd := cw_rc hr hc
  have e : ((nI R * nI C) - 1) - ((nI r * nI C) + nI c) = nI (R * C - 1 - (r * C + c)) := by
    rw [pk_mul, pk_mul, nI_add, cw_s1 hN.1, pk_sub (by omega)]
  unfold wpY_cellOf
  dsimp only
  rw [e, cw_dg hn (by omega)]
  exact h
theorem cy_lengthOf {post : Int32 → Prop} {R C l : Nat} (hrc : cw_RC R C) (hl : l < R + C) (h : post (nI (cw_ln R C l))) : wpY_lengthOf post (y_depth, nI R, nI C, y_stack, y_lc, y_lines, y_pins) (nI l) := by
  obtain ⟨h1, h2, h3, h4⟩ := hrc
  by_cases z : l < R
  · rw [cw_lnr z] at h
    exact br_f (nI_ge z (by omega)) h
  · rw [cw_lnc z] at h
    exact br_t (nI_le (by omega) (by omega)) h
theorem cy_wordOf {post : Int32 → Prop} {R C n l : Nat} (hrc : cw_RC R C) (hn : n < 2 ^ 31) (hl : l < R + C) (h : post (nI (cw_wv (cw_g R C n l) (cw_ln R C l)))) : wpY_wordOf post (y_depth, nI R, nI C, y_stack, y_lc, y_lines, y_pins) (nI n) (nI l) := by
  have hR := hrc
  obtain ⟨h1, h2, h3, h4⟩ := hR
  have hln := cw_ln4 hrc l
  unfold wpY_wordOf
  dsimp only
  refine cy_lengthOf hrc hl ?_
  refine loop_0 (fun k i s => wY_wordOf_12 post (nI n) (nI l) (nI (cw_ln R C l)) y_depth (nI R) (nI C) y_stack y_lc y_lines y_pins k s (nI i)) (fun i s => s = nI (cw_wv (cw_g R C n l) i)) (cw_ln R C l) 0 rfl ?_ ?_
  · intro k s hI
    subst hI
    exact br_t (nI_le (Nat.le_refl _) (by omega)) h
  · intro k i s hi hI K
    subst hI
    have fin : nI (cw_wv (cw_g R C n l) i) * 2 + nI (cw_g R C n l i) = nI (cw_wv (cw_g R C n l) (i + 1)) := by
      show _ * nI 2 + _ = _
      rw [pk_mul, nI_add]
      rfl
    refine br_f (nI_ge hi (by omega)) ?_
    by_cases z : l < R
    · rw [cw_lnr z] at hi
      refine br_f (nI_ge z (by omega)) (cy_cellOf hrc hn z hi ?_)
      refine nm_r (e' := nI (cw_wv (cw_g R C n l) (i + 1))) ?_ (nm_r (nI_1 i) (K _ rfl))
      rw [← fin]
      unfold cw_g
      rw [cw_clr z]
    · rw [cw_lnc z] at hi
      refine br_t (nI_le (by omega) (by omega)) ?_
      rw [pk_sub (a := l) (b := R) (by omega)]
      refine cy_cellOf hrc hn hi (by omega) ?_
      refine nm_r (e' := nI (cw_wv (cw_g R C n l) (i + 1))) ?_ (nm_r (nI_1 i) (K _ rfl))
      rw [← fin]
      unfold cw_g
      rw [cw_clc z]
theorem cy_pinsKept {post : Int32 → Prop} {R C n : Nat} (hrc : cw_RC R C) (hn : n < 2 ^ 31) (hy1 : cw_PY R C y_pins n → post 1) (hy0 : ¬ cw_PY R C y_pins n → post 0) : wpY_pinsKept post (y_depth, nI R, nI C, y_stack, y_lc, y_lines, y_pins) (nI n) := by
  have hR := hrc
  obtain ⟨h1, h2, h3, h4⟩ := hR
  show ∃ n2 : Nat, wY_pinsKept_2 post (nI n) y_depth (nI R) (nI C) y_stack y_lc y_lines y_pins n2 0
  refine loop_0 (fun k i (_ : Unit) => wY_pinsKept_2 post (nI n) y_depth (nI R) (nI C) y_stack y_lc y_lines y_pins k (nI i)) (fun i _ => ∀ r, r < i → ∀ c, c < C → cw_okc R C y_pins n r c) R () (fun r h => absurd h (Nat.not_lt_zero _)) ?_ ?_
  · intro k _ hI
    exact br_t (nI_le (Nat.le_refl _) (by omega)) (hy1 hI)
  · intro k i _ hi hI K
    refine br_f (nI_ge hi (by omega)) ?_
    refine loop_0 (fun k' c (_ : Unit) => wY_pinsKept_12 post (wY_pinsKept_2 post (nI n) y_depth (nI R) (nI C) y_stack y_lc y_lines y_pins k) (nI n) (nI i) y_depth (nI R) (nI C) y_stack y_lc y_lines y_pins k' (nI c)) (fun c _ => ∀ c', c' < c → cw_okc R C y_pins n i c') C () (fun c h => absurd h (Nat.not_lt_zero _)) ?_ ?_
    · intro k' _ hI2
      exact br_t (nI_le (Nat.le_refl _) (by omega)) (nm_r (nI_1 i) (K () (lt_s (p := fun r => ∀ c, c < C → cw_okc R C y_pins n r c) hI hI2)))
    · intro k' c _ hc hI2 K2
      have e : nI i * 4 + nI c = nI (i * 4 + c) := by
        show nI i * nI 4 + nI c = _
        rw [pk_mul, nI_add]
      refine br_f (nI_ge hc (by omega)) ⟨pk_in (i * 4 + c) 12 (by omega) e, nm_r (e' := y_pins (i * 4 + c)) ?_ ?_⟩
      · rw [e, nI_clamp (by omega)]
      · exact br_c (fun a => nm_r (nI_1 c) (K2 () (lt_s (p := cw_okc R C y_pins n i) hI2 (Or.inl a)))) (fun a => cy_cellOf hrc hn hi hc (br_c (fun b => nm_r (nI_1 c) (K2 () (lt_s (p := cw_okc R C y_pins n i) hI2 (Or.inr b)))) (fun b => hy0 (fun hP => (hP i hi c hc).elim a b))))
theorem cy_fits {post : Int32 → Prop} {R C n : Nat} (hrc : cw_RC R C) (hn : n < 2 ^ 31) (hy1 : cw_FY R C y_pins y_lines n → post 1) (hy0 : ¬ cw_FY R C y_pins y_lines n → post 0) : wpY_fits post (y_depth, nI R, nI C, y_stack, y_lc, y_lines, y_pins) (nI n) := by
  have hR := hrc
  obtain ⟨h1, h2, h3, h4⟩ := hR
  unfold wpY_fits
  dsimp only
  refine cy_pinsKept hrc hn (fun hp => br_f (by decide) ?_) (fun hp => br_t rfl (hy0 (fun f => hp f.1)))
  refine loop_0 (fun k i (_ : Unit) => wY_fits_12 post (nI n) y_depth (nI R) (nI C) y_stack y_lc y_lines y_pins k (nI i)) (fun i _ => ∀ l, l < i → cw_LY R C y_lines n l) (R + C) () (fun r h => absurd h (Nat.not_lt_zero _)) ?_ ?_
  · intro k _ hI
    refine br_t ?_ (hy1 ⟨hp, hI⟩)
    rw [nI_add]
    exact nI_le (Nat.le_refl _) (by omega)
  · intro k i _ hi hI K
    have hln := cw_ln4 hrc i
    refine br_f ?_ (cy_wordOf hrc hn hi (cy_lengthOf hrc hi ⟨vp_in_nI (by omega) (by omega), ?_⟩))
    · rw [nI_add]
      exact nI_ge hi (by omega)
    · rw [nI_clamp (by omega)]
      exact cy_holds hln.2 (cw_wvlt (cw_gl R C n i) _) (fun b => br_f (by decide) (nm_r (nI_1 i) (K () (lt_s (p := cw_LY R C y_lines n) hI b)))) (fun b => br_t rfl (hy0 (fun f => b (f.2 i hi))))
theorem cy_top {R C : Nat} (hrc : cw_RC R C) : (1 : Int32) <<< ((nI R * nI C) &&& 31) = nI (2 ^ (R * C)) := by
  have hN := cw_N12 hrc
  rw [pk_mul, cw_pw (by omega)]
theorem cy_fillings {post : Int32 → Prop} {R C : Nat} (hrc : cw_RC R C) (h : post (nI (cw_cn (cw_FY R C y_pins y_lines) (2 ^ (R * C))))) : wpY_fillings post (y_depth, nI R, nI C, y_stack, y_lc, y_lines, y_pins) := by
  have h2 := cw_2N hrc
  show ∃ n4 : Nat, wY_fillings_4 post y_depth (nI R) (nI C) y_stack y_lc y_lines y_pins n4 0 0
  refine loop_0 (fun k j s => wY_fillings_4 post y_depth (nI R) (nI C) y_stack y_lc y_lines y_pins k s (nI j)) (fun j s => s = nI (cw_cn (cw_FY R C y_pins y_lines) j)) (2 ^ (R * C)) 0 rfl ?_ ?_
  · intro k s hI
    subst hI
    refine br_t ?_ h
    rw [cy_top hrc]
    exact nI_le (Nat.le_refl _) (by omega)
  · intro k j s hj hI K
    subst hI
    refine br_f ?_ (cy_fits hrc (by omega) (fun f => ?_) (fun f => ?_))
    · rw [cy_top hrc]
      exact nI_ge hj (by omega)
    · exact br_f (by decide) (nm_r (nI_1 _) (nm_r (nI_1 j) (K _ (by rw [cw_cnT f]))))
    · exact br_t rfl (nm_r (nI_1 j) (K _ (by rw [cw_cnF f])))
theorem cy_fillingS {post : Int32 → Prop} {R C k j0 : Nat} (hrc : cw_RC R C) (hk : k < 2 ^ 31) (hj0 : j0 < 2 ^ (R * C)) (hF : cw_FY R C y_pins y_lines j0) (hc : cw_cn (cw_FY R C y_pins y_lines) j0 = k) (h : post (nI j0)) : wpY_filling post (y_depth, nI R, nI C, y_stack, y_lc, y_lines, y_pins) (nI k) := by
  have h2 := cw_2N hrc
  refine br_t (nI_pos' hk) ?_
  refine loop_0 (fun f j s => wY_filling_10 post (nI k) y_depth (nI R) (nI C) y_stack y_lc y_lines y_pins f s (nI j)) (fun j s => j ≤ j0 ∧ s = nI (cw_cn (cw_FY R C y_pins y_lines) j)) (2 ^ (R * C)) 0 ⟨Nat.zero_le _, rfl⟩ ?_ ?_
  · intro f s ⟨hI, _⟩
    omega
  · intro f j s hj ⟨hI, e⟩ K
    subst e
    have hle := cw_cnle (cw_FY R C y_pins y_lines) j
    refine br_f ?_ (cy_fits hrc (by omega) (fun g => ?_) (fun g => ?_))
    · rw [cy_top hrc]
      exact nI_ge hj (by omega)
    · refine br_f (by decide) ?_
      by_cases z : j = j0
      · subst z
        exact br_t (by rw [hc]) h
      · have m := cw_cnmono (cw_FY R C y_pins y_lines) (show j + 1 ≤ j0 from by omega)
        rw [cw_cnT g] at m
        refine br_f ?_ (nm_r (nI_1 _) (nm_r (nI_1 j) (K _ ⟨by omega, by rw [cw_cnT g]⟩)))
        rw [nI_eq (by omega) hk]
        omega
    · have z : j ≠ j0 := fun z => g (by rw [z]; exact hF)
      exact br_t rfl (nm_r (nI_1 j) (K _ ⟨by omega, by rw [cw_cnF g]⟩))
theorem cy_fillingN {post : Int32 → Prop} {R C k : Nat} (hrc : cw_RC R C) (hk : k < 2 ^ 31) (hc : cw_cn (cw_FY R C y_pins y_lines) (2 ^ (R * C)) ≤ k) (h : post (-4)) : wpY_filling post (y_depth, nI R, nI C, y_stack, y_lc, y_lines, y_pins) (nI k) := by
  have h2 := cw_2N hrc
  refine br_t (nI_pos' hk) ?_
  refine loop_0 (fun f j s => wY_filling_10 post (nI k) y_depth (nI R) (nI C) y_stack y_lc y_lines y_pins f s (nI j)) (fun j s => s = nI (cw_cn (cw_FY R C y_pins y_lines) j)) (2 ^ (R * C)) 0 rfl ?_ ?_
  · intro f s e
    subst e
    refine br_t ?_ h
    rw [cy_top hrc]
    exact nI_le (Nat.le_refl _) (by omega)
  · intro f j s hj e K
    subst e
    have hle := cw_cnle (cw_FY R C y_pins y_lines) j
    refine br_f ?_ (cy_fits hrc (by omega) (fun g => ?_) (fun g => ?_))
    · rw [cy_top hrc]
      exact nI_ge hj (by omega)
    · refine br_f (by decide) ?_
      have m := cw_cnmono (cw_FY R C y_pins y_lines) (show j + 1 ≤ 2 ^ (R * C) from hj)
      rw [cw_cnT g] at m
      refine br_f ?_ (nm_r (nI_1 _) (nm_r (nI_1 j) (K _ (by rw [cw_cnT g]))))
      rw [nI_eq (by omega) hk]
      omega
    · exact br_t rfl (nm_r (nI_1 j) (K _ (by rw [cw_cnF g])))
theorem cy_below {post : Int32 → Prop} {R C : Nat} {B : Int32} (hrc : cw_RC R C) (h : post (nI (cw_cn (fun j => nI j < B ∧ cw_FY R C y_pins y_lines j) (2 ^ (R * C))))) : wpY_below post (y_depth, nI R, nI C, y_stack, y_lc, y_lines, y_pins) B := by
  have h2 := cw_2N hrc
  show ∃ n4 : Nat, wY_below_4 post B y_depth (nI R) (nI C) y_stack y_lc y_lines y_pins n4 0 0
  refine loop_0 (fun k j s => wY_below_4 post B y_depth (nI R) (nI C) y_stack y_lc y_lines y_pins k s (nI j)) (fun j s => s = nI (cw_cn (fun j => nI j < B ∧ cw_FY R C y_pins y_lines j) j)) (2 ^ (R * C)) 0 rfl ?_ ?_
  · intro k s hI
    subst hI
    refine br_t ?_ h
    rw [cy_top hrc]
    exact nI_le (Nat.le_refl _) (by omega)
  · intro k j s hj hI K
    subst hI
    refine br_f ?_ (br_c (fun b => ?_) (fun b => cy_fits hrc (by omega) (fun f => ?_) (fun f => ?_)))
    · rw [cy_top hrc]
      exact nI_ge hj (by omega)
    · exact nm_r (nI_1 j) (K _ (by rw [cw_cnF (fun z => Int32.not_lt.mpr b z.1)]))
    · exact br_f (by decide) (nm_r (nI_1 _) (nm_r (nI_1 j) (K _ (by rw [cw_cnT ⟨Int32.not_le.mp b, f⟩]))))
    · exact br_t rfl (nm_r (nI_1 j) (K _ (by rw [cw_cnF (fun z => f z.2)])))
theorem cy_f1 {post : Int32 → Prop} {J : Int32 → Int32 → Int32 → Prop} {x1 x2 x3 x4 x5 : Int32} (h3 : x3 = 0 ∨ x3 = 1) (h4 : x4 = 0 ∨ x4 = 1) (K : J x3 1 (x5 + 1)) : wY_forced_61 post J x1 x2 x3 x4 x5 1 y_depth y_rows y_columns y_stack y_lc y_lines y_pins := by
  have k73 : wY_forced_73 post J x1 x2 x3 x5 1 y_depth y_rows y_columns y_stack y_lc y_lines y_pins := by
    unfold wY_forced_73 wY_forced_78
    rcases h3 with rfl | rfl
    · exact br_t rfl (br_f (by decide) (nm_e K))
    · exact br_f (by decide) (nm_e K)
  unfold wY_forced_61
  rcases h4 with rfl | rfl
  · exact br_t rfl (br_f (by decide) k73)
  · exact br_f (by decide) k73
theorem cy_f0 {post : Int32 → Prop} {J : Int32 → Int32 → Int32 → Prop} {x1 x2 x3 x4 x5 : Int32} (h3 : x3 = 0 ∨ x3 = 1) (h4 : x4 = 0 ∨ x4 = 1) (K : J 1 x4 (x5 + 1)) : wY_forced_61 post J x1 x2 x3 x4 x5 0 y_depth y_rows y_columns y_stack y_lc y_lines y_pins := by
  unfold wY_forced_61 wY_forced_73 wY_forced_78
  rcases h4 with rfl | rfl
  · refine br_t rfl (br_t rfl ?_)
    rcases h3 with rfl | rfl
    · exact br_t rfl (br_t rfl (nm_e K))
    · exact br_f (by decide) (nm_e K)
  · refine br_f (by decide) ?_
    rcases h3 with rfl | rfl
    · exact br_t rfl (br_t rfl (nm_e K))
    · exact br_f (by decide) (nm_e K)
/-- some filling below j has digit v in cell d -/
def cw_some (F : Nat → Prop) (N d v j : Nat) : Prop := ∃ i, i < j ∧ F i ∧ cw_dig N i d = v
theorem cw_someS {F : Nat → Prop} {N d v j : Nat} (h : F j) (hv : cw_dig N j d = v) : cw_some F N d v (j + 1) := ⟨j, by omega, h, hv⟩
theorem cw_someK {F : Nat → Prop} {N d v j : Nat} (h : ¬ (F j ∧ cw_dig N j d = v)) : cw_some F N d v (j + 1) ↔ cw_some F N d v j := by
  constructor
  · intro ⟨i, a, b, c⟩
    by_cases z : i = j
    · subst z; exact absurd ⟨b, c⟩ h
    · exact ⟨i, by omega, b, c⟩
  · intro ⟨i, a, b, c⟩
    exact ⟨i, by omega, b, c⟩
theorem cw_bI (P : Prop) : nI (cw_b01 P) = 0 ∨ nI (cw_b01 P) = 1 := by
  by_cases h : P
  · rw [cw_b1 h]; exact Or.inr rfl
  · rw [cw_b0 h]; exact Or.inl rfl
theorem cy_forced {post : Int32 → Prop} {R C r c : Nat} (hrc : cw_RC R C) (hr : r < R) (hc : c < C)
    (hNN : ¬ cw_some (cw_FY R C y_pins y_lines) (R * C) (r * C + c) 0 (2 ^ (R * C)) → ¬ cw_some (cw_FY R C y_pins y_lines) (R * C) (r * C + c) 1 (2 ^ (R * C)) → post (-4))
    (hNY : ¬ cw_some (cw_FY R C y_pins y_lines) (R * C) (r * C + c) 0 (2 ^ (R * C)) → cw_some (cw_FY R C y_pins y_lines) (R * C) (r * C + c) 1 (2 ^ (R * C)) → post 1)
    (hYN : cw_some (cw_FY R C y_pins y_lines) (R * C) (r * C + c) 0 (2 ^ (R * C)) → ¬ cw_some (cw_FY R C y_pins y_lines) (R * C) (r * C + c) 1 (2 ^ (R * C)) → post 0)
    (hYY : cw_some (cw_FY R C y_pins y_lines) (R * C) (r * C + c) 0 (2 ^ (R * C)) → cw_some (cw_FY R C y_pins y_lines) (R * C) (r * C + c) 1 (2 ^ (R * C)) → post 2) :
    wpY_forced post (y_depth, nI R, nI C, y_stack, y_lc, y_lines, y_pins) (nI r) (nI c) := by
  have h2 := cw_2N hrc
  unfold wpY_forced
  dsimp only
  refine cy_isCellT hrc hr hc (br_f (by decide) ?_)
  refine loop_0 (σ := Int32 × Int32) (fun k j s => wY_forced_19 post (nI r) (nI c) y_depth (nI R) (nI C) y_stack y_lc y_lines y_pins k s.1 s.2 (nI j)) (fun j s => s.1 = nI (cw_b01 (cw_some (cw_FY R C y_pins y_lines) (R * C) (r * C + c) 0 j)) ∧ s.2 = nI (cw_b01 (cw_some (cw_FY R C y_pins y_lines) (R * C) (r * C + c) 1 j))) (2 ^ (R * C)) (0, 0) ?_ ?_ ?_
  · constructor
    · rw [cw_b0 (fun ⟨i, a, _⟩ => absurd a (Nat.not_lt_zero _))]; rfl
    · rw [cw_b0 (fun ⟨i, a, _⟩ => absurd a (Nat.not_lt_zero _))]; rfl
  · intro k ⟨s1, s2⟩ ⟨e1, e2⟩
    dsimp only at e1 e2
    subst e1 e2
    refine br_t ?_ ?_
    · rw [cy_top hrc]
      exact nI_le (Nat.le_refl _) (by omega)
    · by_cases z : cw_some (cw_FY R C y_pins y_lines) (R * C) (r * C + c) 0 (2 ^ (R * C))
      · by_cases o : cw_some (cw_FY R C y_pins y_lines) (R * C) (r * C + c) 1 (2 ^ (R * C))
        · rw [cw_b1 z, cw_b1 o]
          exact br_f (by decide) (br_f (by decide) (br_f (by decide) (hYY z o)))
        · rw [cw_b1 z, cw_b0 o]
          exact br_f (by decide) (br_f (by decide) (br_t rfl (br_t rfl (hYN z o))))
      · by_cases o : cw_some (cw_FY R C y_pins y_lines) (R * C) (r * C + c) 1 (2 ^ (R * C))
        · rw [cw_b0 z, cw_b1 o]
          exact br_t rfl (br_f (by decide) (br_t rfl (br_f (by decide) (hNY z o))))
        · rw [cw_b0 z, cw_b0 o]
          exact br_t rfl (br_t rfl (hNN z o))
  · intro k j ⟨s1, s2⟩ hj ⟨e1, e2⟩ K
    dsimp only at e1 e2
    subst e1 e2
    refine br_f ?_ (cy_fits hrc (by omega) (fun f => br_f (by decide) (cy_cellOf hrc (by omega) hr hc ?_)) (fun f => ?_))
    · rw [cy_top hrc]
      exact nI_ge hj (by omega)
    · have hd := cw_digl (R * C) j (r * C + c)
      by_cases z : cw_dig (R * C) j (r * C + c) = 1
      · rw [z]
        refine br_t rfl (cy_f1 (cw_bI _) (cw_bI _) ?_)
        rw [nI_1]
        refine K (_, 1) ⟨?_, ?_⟩
        · rw [propext (cw_someK (v := 0) (fun t => by omega))]
        · rw [cw_b1 (cw_someS f z)]; rfl
      · have z0 : cw_dig (R * C) j (r * C + c) = 0 := by omega
        rw [z0]
        refine br_f (by decide) (cy_f0 (cw_bI _) (cw_bI _) ?_)
        rw [nI_1]
        refine K (1, _) ⟨?_, ?_⟩
        · rw [cw_b1 (cw_someS f z0)]; rfl
        · rw [propext (cw_someK (v := 1) (fun t => by omega))]
    · refine br_t rfl (nm_r (nI_1 j) (K (_, _) ⟨?_, ?_⟩))
      · rw [propext (cw_someK (v := 0) (fun t => f t.1))]
      · rw [propext (cw_someK (v := 1) (fun t => f t.1))]
/-- the pin of letter i of line l, in the reference -/
def cw_yq (R : Nat) (yp : Nat → Int32) (l i : Nat) : Int32 := if l < R then yp (l * 4 + i) else yp (i * 4 + l - R)
def cw_okw (R C : Nat) (yp : Nat → Int32) (l b i : Nat) : Prop := cw_yq R yp l i = 2 ∨ cw_yq R yp l i = nI (b / 2 ^ (cw_ln R C l - 1 - i) % 2)
theorem cy_keeps {post : Int32 → Prop} {R C l b : Nat} (hrc : cw_RC R C) (hl : l < R + C) (hb : b < 2 ^ cw_ln R C l) (hy1 : (∀ i, i < cw_ln R C l → cw_okw R C y_pins l b i) → post 1) (hy0 : ¬ (∀ i, i < cw_ln R C l → cw_okw R C y_pins l b i) → post 0) : wpY_wordKeepsPins post (y_depth, nI R, nI C, y_stack, y_lc, y_lines, y_pins) (nI l) (nI (cw_ln R C l)) (nI b) := by
  have hln := cw_ln4 hrc l
  have h16 := cw_16 hln.2
  have hR := hrc
  obtain ⟨h1, h2, h3, h4⟩ := hR
  show ∃ n3 : Nat, wY_wordKeepsPins_3 post (nI l) (nI (cw_ln R C l)) (nI b) y_depth (nI R) (nI C) y_stack y_lc y_lines y_pins n3 0
  refine loop_0 (fun k i (_ : Unit) => wY_wordKeepsPins_3 post (nI l) (nI (cw_ln R C l)) (nI b) y_depth (nI R) (nI C) y_stack y_lc y_lines y_pins k (nI i)) (fun i _ => ∀ t, t < i → cw_okw R C y_pins l b t) (cw_ln R C l) () (fun r h => absurd h (Nat.not_lt_zero _)) ?_ ?_
  · intro k _ hI
    exact br_t (nI_le (Nat.le_refl _) (by omega)) (hy1 hI)
  · intro k i _ hi hI K
    have j47 : wY_wordKeepsPins_47 post (wY_wordKeepsPins_3 post (nI l) (nI (cw_ln R C l)) (nI b) y_depth (nI R) (nI C) y_stack y_lc y_lines y_pins k) (nI l) (nI (cw_ln R C l)) (nI b) (nI i) (cw_yq R y_pins l i) y_depth (nI R) (nI C) y_stack y_lc y_lines y_pins := by
      unfold wY_wordKeepsPins_47
      rw [cw_s1 hln.1, pk_sub (by omega), cw_dg (by omega) (by omega)]
      exact br_c (fun a => nm_r (nI_1 i) (K () (lt_s (p := cw_okw R C y_pins l b) hI (Or.inl a)))) (fun a => br_c (fun c => nm_r (nI_1 i) (K () (lt_s (p := cw_okw R C y_pins l b) hI (Or.inr c)))) (fun c => hy0 (fun hP => (hP i hi).elim a c)))
    refine br_f (nI_ge hi (by omega)) ?_
    by_cases z : l < R
    · rw [cw_lnr z] at hi
      have e : nI l * 4 + nI i = nI (l * 4 + i) := by
        show nI l * nI 4 + nI i = _
        rw [pk_mul, nI_add]
      have e2 : cw_yq R y_pins l i = y_pins (l * 4 + i) := if_pos z
      refine br_f (nI_ge z (by omega)) ⟨pk_in (l * 4 + i) 12 (by omega) e, ?_⟩
      rw [e, nI_clamp (by omega), ← e2]
      exact j47
    · rw [cw_lnc z] at hi
      have e : nI i * 4 + nI l - nI R = nI (i * 4 + l - R) := by
        show nI i * nI 4 + nI l - nI R = _
        rw [pk_mul, nI_add, pk_sub (by omega)]
      have e2 : cw_yq R y_pins l i = y_pins (i * 4 + l - R) := if_neg z
      refine br_t (nI_le (by omega) (by omega)) ⟨pk_in (i * 4 + l - R) 12 (by omega) e, ?_⟩
      rw [e, nI_clamp (by omega), ← e2]
      exact j47
def cw_WY (R C : Nat) (yp li : Nat → Int32) (l b : Nat) : Prop := bt (li l) (2 ^ cw_ln R C l - 1 + b) = true ∧ ∀ i, i < cw_ln R C l → cw_okw R C yp l b i
theorem cy_lineWords {post : Int32 → Prop} {R C l : Nat} (hrc : cw_RC R C) (hl : l < R + C) (h : post (nI (cw_cn (cw_WY R C y_pins y_lines l) (2 ^ cw_ln R C l)))) : wpY_lineWords post (y_depth, nI R, nI C, y_stack, y_lc, y_lines, y_pins) (nI l) := by
  have hln := cw_ln4 hrc l
  have h16 := cw_16 hln.2
  have hR := hrc
  obtain ⟨h1, h2, h3, h4⟩ := hR
  unfold wpY_lineWords
  dsimp only
  refine cy_isLineT hrc hl (br_f (by decide) (cy_lengthOf hrc hl ?_))
  refine loop_0 (fun k b s => wY_lineWords_21 post (nI l) (nI (cw_ln R C l)) y_depth (nI R) (nI C) y_stack y_lc y_lines y_pins k s (nI b)) (fun b s => s = nI (cw_cn (cw_WY R C y_pins y_lines l) b)) (2 ^ cw_ln R C l) 0 rfl ?_ ?_
  · intro k s hI
    subst hI
    refine br_t ?_ h
    rw [cw_pw (by omega)]
    exact nI_le (Nat.le_refl _) (by omega)
  · intro k b s hb hI K
    subst hI
    refine br_f ?_ ⟨vp_in_nI (by omega) (by omega), ?_⟩
    · rw [cw_pw (by omega)]
      exact nI_ge hb (by omega)
    · rw [nI_clamp (n := l) (by omega)]
      refine cy_holds hln.2 hb (fun a => br_f (by decide) (cy_keeps hrc hl hb (fun c => ?_) (fun c => ?_))) (fun a => ?_)
      · exact br_f (by decide) (nm_r (nI_1 _) (nm_r (nI_1 b) (K _ (by rw [cw_cnT ⟨a, c⟩]))))
      · exact br_t rfl (nm_r (nI_1 b) (K _ (by rw [cw_cnF (fun t => c t.2)])))
      · exact br_t rfl (nm_r (nI_1 b) (K _ (by rw [cw_cnF (fun t => a t.1)])))
end
end
section
/-! ===== the component: making expressions ===== -/
theorem cw_updor {g : Nat → Int32} {i : Nat} {x : Int32} (p q : Nat) : bt (upd g i (g i ||| x) p) q = true ↔ bt (g p) q = true ∨ (p = i ∧ bt x q = true) := by
  by_cases h : p = i
  · subst h
    rw [pk_us, cw_orT]
    exact ⟨fun z => z.elim Or.inl (fun y => Or.inr ⟨rfl, y⟩), fun z => z.elim Or.inl (fun y => Or.inr y.2)⟩
  · rw [pk_un h]
    exact ⟨Or.inl, fun z => z.elim id (fun y => absurd y.1 h)⟩
theorem cw_ne {a b : Nat} (h : a ≠ b) (ha : a < 2 ^ 31) (hb : b < 2 ^ 31) : ¬ nI a = nI b := fun e => h ((nI_eq ha hb).mp e)
section
variable {f_rows f_columns f_lines f_cells f_height f_places f_ready f_found f_number f_allOnes f_anyOnes : Int32} {a_rowOf a_columnOf a_pins a_low a_first a_last a_empty a_kind a_follow a_turned a_lineFirst a_lineLast a_lineEmpty a_lineZeros a_lineOnes a_lineFollow a_back a_digit a_tried a_rowSet a_columnSet : Nat → Int32}
theorem cx_link {post : SX → Prop} {fr to : Int32} (hfr : ∀ p, bt fr p = true → p < 8) (H : ∀ g : Nat → Int32, (∀ p q, bt (g p) q = true ↔ bt (a_follow p) q = true ∨ (bt fr p = true ∧ bt to q = true)) → post (f_rows, f_columns, f_lines, f_cells, f_height, f_places, f_ready, f_found, f_number, f_allOnes, f_anyOnes, a_rowOf, a_columnOf, a_pins, a_low, a_first, a_last, a_empty, a_kind, g, a_turned, a_lineFirst, a_lineLast, a_lineEmpty, a_lineZeros, a_lineOnes, a_lineFollow, a_back, a_digit, a_tried, a_rowSet, a_columnSet)) : wpX_link post (f_rows, f_columns, f_lines, f_cells, f_height, f_places, f_ready, f_found, f_number, f_allOnes, f_anyOnes, a_rowOf, a_columnOf, a_pins, a_low, a_first, a_last, a_empty, a_kind, a_follow, a_turned, a_lineFirst, a_lineLast, a_lineEmpty, a_lineZeros, a_lineOnes, a_lineFollow, a_back, a_digit, a_tried, a_rowSet, a_columnSet) fr to := by
  show ∃ n2 : Nat, wX_link_2 post fr to f_rows f_columns f_lines f_cells f_height f_places f_ready f_found f_number f_allOnes f_anyOnes n2 0 a_rowOf a_columnOf a_pins a_low a_first a_last a_empty a_kind a_follow a_turned a_lineFirst a_lineLast a_lineEmpty a_lineZeros a_lineOnes a_lineFollow a_back a_digit a_tried a_rowSet a_columnSet
  refine loop_0 (fun n i (g : Nat → Int32) => wX_link_2 post fr to f_rows f_columns f_lines f_cells f_height f_places f_ready f_found f_number f_allOnes f_anyOnes n (nI i) a_rowOf a_columnOf a_pins a_low a_first a_last a_empty a_kind g a_turned a_lineFirst a_lineLast a_lineEmpty a_lineZeros a_lineOnes a_lineFollow a_back a_digit a_tried a_rowSet a_columnSet) (fun i g => ∀ p q, bt (g p) q = true ↔ bt (a_follow p) q = true ∨ (p < i ∧ bt fr p = true ∧ bt to q = true)) 8 a_follow ?_ ?_ ?_
  · exact fun p q => ⟨Or.inl, fun z => z.elim id (fun y => absurd y.1 (Nat.not_lt_zero _))⟩
  · intro n g h1
    refine br_t (nI_le (a := 8) (b := 8) (by omega) (by omega)) (H g (fun p q => ?_))
    rw [h1 p q]
    exact ⟨fun z => z.elim Or.inl (fun y => Or.inr y.2), fun z => z.elim Or.inl (fun y => Or.inr ⟨hfr p y.1, y⟩)⟩
  · intro n i g hi h1 K
    refine br_f (nI_ge (b := 8) hi (by omega)) (cw_if (cw_test (by omega)) (fun a => ?_) (fun a => ?_))
    · refine ⟨vp_in_nI hi (by omega), vp_in_nI hi (by omega), nm_e (nm_r (nI_1 i) (K _ (fun p q => ?_)))⟩
      rw [nI_clamp (by omega), cw_updor, h1 p q]
      constructor
      · rintro ((b | ⟨b, c⟩) | ⟨rfl, d⟩)
        · exact Or.inl b
        · exact Or.inr ⟨by omega, c⟩
        · exact Or.inr ⟨by omega, a, d⟩
      · rintro (b | ⟨b, c, d⟩)
        · exact Or.inl (Or.inl b)
        · by_cases e : p = i
          · exact Or.inr ⟨e, d⟩
          · exact Or.inl (Or.inr ⟨by omega, c, d⟩)
    · refine nm_r (nI_1 i) (K g (fun p q => ?_))
      rw [h1 p q]
      constructor
      · rintro (b | ⟨b, c⟩)
        · exact Or.inl b
        · exact Or.inr ⟨by omega, c⟩
      · rintro (b | ⟨b, c, d⟩)
        · exact Or.inl b
        · by_cases e : p = i
          · subst e; exact absurd c a
          · exact Or.inr ⟨by omega, c, d⟩
theorem cx_push {post : SX → Prop} {h : Nat} {x y e : Int32} (hh : h < 6) (H : post (f_rows, f_columns, f_lines, f_cells, nI (h + 1), f_places, f_ready, f_found, f_number, f_allOnes, f_anyOnes, a_rowOf, a_columnOf, a_pins, upd a_low h f_places, upd a_first h x, upd a_last h y, upd a_empty h (vp_nar .boolean e), a_kind, a_follow, a_turned, a_lineFirst, a_lineLast, a_lineEmpty, a_lineZeros, a_lineOnes, a_lineFollow, a_back, a_digit, a_tried, a_rowSet, a_columnSet)) : wpX_push post (f_rows, f_columns, f_lines, f_cells, nI h, f_places, f_ready, f_found, f_number, f_allOnes, f_anyOnes, a_rowOf, a_columnOf, a_pins, a_low, a_first, a_last, a_empty, a_kind, a_follow, a_turned, a_lineFirst, a_lineLast, a_lineEmpty, a_lineZeros, a_lineOnes, a_lineFollow, a_back, a_digit, a_tried, a_rowSet, a_columnSet) x y e := by
  have hi : vp_in (nI h) 6 := vp_in_nI hh (by omega)
  unfold wpX_push
  dsimp only
  rw [nI_clamp (by omega)]
  exact ⟨hi, nm_e ⟨hi, nm_e ⟨hi, nm_e ⟨hi, nm_e (nm_r (nI_1 h) H)⟩⟩⟩⟩
theorem cx_letter {post : Int32 → SX → Prop} {h pl c : Nat} (hh : h < 6) (hp : pl < 8) (hc : c ≤ 2) (H : post (nI (h + 1)) (f_rows, f_columns, f_lines, f_cells, nI (h + 1), nI (pl + 1), f_ready, f_found, f_number, f_allOnes, f_anyOnes, a_rowOf, a_columnOf, a_pins, upd a_low h (nI pl), upd a_first h ((1 : Int32) <<< (nI pl &&& 31)), upd a_last h ((1 : Int32) <<< (nI pl &&& 31)), upd a_empty h (vp_nar .boolean 0), upd a_kind pl (nI c), upd a_follow pl 0, a_turned, a_lineFirst, a_lineLast, a_lineEmpty, a_lineZeros, a_lineOnes, a_lineFollow, a_back, a_digit, a_tried, a_rowSet, a_columnSet)) : wpX_letter post (f_rows, f_columns, f_lines, f_cells, nI h, nI pl, f_ready, f_found, f_number, f_allOnes, f_anyOnes, a_rowOf, a_columnOf, a_pins, a_low, a_first, a_last, a_empty, a_kind, a_follow, a_turned, a_lineFirst, a_lineLast, a_lineEmpty, a_lineZeros, a_lineOnes, a_lineFollow, a_back, a_digit, a_tried, a_rowSet, a_columnSet) (nI c) := by
  have hi : vp_in (nI pl) 8 := vp_in_nI hp (by omega)
  unfold wpX_letter
  dsimp only
  refine br_f (nI_pos (by omega)) (br_t (nI_le (b := 2) hc (by omega)) (br_f (cw_ne (b := 6) (by omega) (by omega) (by omega)) (br_f (cw_ne (b := 8) (by omega) (by omega) (by omega)) (nm_e (cx_push hh ?_)))))
  dsimp only
  rw [nI_clamp (by omega)]
  exact ⟨hi, nm_e ⟨hi, nm_e (nm_r (nI_1 pl) H)⟩⟩
theorem cx_unit {post : Int32 → SX → Prop} {h : Nat} (hh : h < 6) (H : post (nI (h + 1)) (f_rows, f_columns, f_lines, f_cells, nI (h + 1), f_places, f_ready, f_found, f_number, f_allOnes, f_anyOnes, a_rowOf, a_columnOf, a_pins, upd a_low h f_places, upd a_first h 0, upd a_last h 0, upd a_empty h (vp_nar .boolean 1), a_kind, a_follow, a_turned, a_lineFirst, a_lineLast, a_lineEmpty, a_lineZeros, a_lineOnes, a_lineFollow, a_back, a_digit, a_tried, a_rowSet, a_columnSet)) : wpX_unit post (f_rows, f_columns, f_lines, f_cells, nI h, f_places, f_ready, f_found, f_number, f_allOnes, f_anyOnes, a_rowOf, a_columnOf, a_pins, a_low, a_first, a_last, a_empty, a_kind, a_follow, a_turned, a_lineFirst, a_lineLast, a_lineEmpty, a_lineZeros, a_lineOnes, a_lineFollow, a_back, a_digit, a_tried, a_rowSet, a_columnSet) := by
  unfold wpX_unit
  dsimp only
  refine br_f (cw_ne (b := 6) (by omega) (by omega) (by omega)) (cx_push hh ?_)
  dsimp only
  exact H
theorem cx_cat112 {post : Int32 → SX → Prop} {x : Nat} (hx : x + 2 ≤ 6) (H : ∀ ea : Nat → Int32, (¬ ea x = 0 ↔ ¬ a_empty x = 0 ∧ ¬ a_empty (x + 1) = 0) → (∀ i, i ≠ x → ea i = a_empty i) → post (nI (x + 1)) (f_rows, f_columns, f_lines, f_cells, nI (x + 1), f_places, f_ready, f_found, f_number, f_allOnes, f_anyOnes, a_rowOf, a_columnOf, a_pins, a_low, a_first, a_last, ea, a_kind, a_follow, a_turned, a_lineFirst, a_lineLast, a_lineEmpty, a_lineZeros, a_lineOnes, a_lineFollow, a_back, a_digit, a_tried, a_rowSet, a_columnSet)) : wX_cat_112 post (nI (x + 1)) (nI x) f_rows f_columns f_lines f_cells f_height f_places f_ready f_found f_number f_allOnes f_anyOnes a_rowOf a_columnOf a_pins a_low a_first a_last a_empty a_kind a_follow a_turned a_lineFirst a_lineLast a_lineEmpty a_lineZeros a_lineOnes a_lineFollow a_back a_digit a_tried a_rowSet a_columnSet := by
  have hi0 : vp_in (nI x) 6 := vp_in_nI (by omega) (by omega)
  have hi1 : vp_in (nI (x + 1)) 6 := vp_in_nI (by omega) (by omega)
  have J : ¬ (¬ a_empty x = 0 ∧ ¬ a_empty (x + 1) = 0) → wX_cat_139 post (nI (x + 1)) (nI x) f_rows f_columns f_lines f_cells f_height f_places f_ready f_found f_number f_allOnes f_anyOnes a_rowOf a_columnOf a_pins a_low a_first a_last a_empty a_kind a_follow a_turned a_lineFirst a_lineLast a_lineEmpty a_lineZeros a_lineOnes a_lineFollow a_back a_digit a_tried a_rowSet a_columnSet := by
    intro hn
    unfold wX_cat_139
    rw [nI_clamp (n := x) (by omega)]
    refine ⟨hi0, nm_e (H _ ?_ ?_)⟩
    · rw [pk_us, cw_nb0]
      exact ⟨fun h => absurd rfl h, fun h => absurd h hn⟩
    · intro i hi
      exact pk_un hi
  unfold wX_cat_112
  rw [nI_clamp (n := x) (by omega), nI_clamp (n := x + 1) (by omega)]
  refine ⟨hi0, br_c (fun a => J (fun h => h.1 a)) (fun a => ⟨hi1, br_c (fun b => J (fun h => h.2 b)) (fun b => ⟨hi0, nm_e (H _ ?_ ?_)⟩)⟩)⟩
  · rw [pk_us]
    exact ⟨fun _ => ⟨a, b⟩, fun _ => cw_nb1⟩
  · intro i hi
    exact pk_un hi
theorem cx_cat69 {post : Int32 → SX → Prop} {x : Nat} (hx : x + 2 ≤ 6) (H : ∀ la ea : Nat → Int32, (∀ q, bt (la x) q = true ↔ bt (a_last (x + 1)) q = true ∨ (¬ a_empty (x + 1) = 0 ∧ bt (a_last x) q = true)) → (¬ ea x = 0 ↔ ¬ a_empty x = 0 ∧ ¬ a_empty (x + 1) = 0) → (∀ i, i ≠ x → la i = a_last i ∧ ea i = a_empty i) → post (nI (x + 1)) (f_rows, f_columns, f_lines, f_cells, nI (x + 1), f_places, f_ready, f_found, f_number, f_allOnes, f_anyOnes, a_rowOf, a_columnOf, a_pins, a_low, a_first, la, ea, a_kind, a_follow, a_turned, a_lineFirst, a_lineLast, a_lineEmpty, a_lineZeros, a_lineOnes, a_lineFollow, a_back, a_digit, a_tried, a_rowSet, a_columnSet)) : wX_cat_69 post (nI (x + 1)) (nI x) f_rows f_columns f_lines f_cells f_height f_places f_ready f_found f_number f_allOnes f_anyOnes a_rowOf a_columnOf a_pins a_low a_first a_last a_empty a_kind a_follow a_turned a_lineFirst a_lineLast a_lineEmpty a_lineZeros a_lineOnes a_lineFollow a_back a_digit a_tried a_rowSet a_columnSet := by
  have hi0 : vp_in (nI x) 6 := vp_in_nI (by omega) (by omega)
  have hi1 : vp_in (nI (x + 1)) 6 := vp_in_nI (by omega) (by omega)
  unfold wX_cat_69
  rw [nI_clamp (n := x) (by omega), nI_clamp (n := x + 1) (by omega)]
  refine ⟨hi1, br_c (fun a => ⟨hi1, hi0, nm_e (cx_cat112 hx (fun ea h1 h2 => H _ ea ?_ h1 (fun i hi => ⟨?_, h2 i hi⟩)))⟩) (fun a => ⟨hi0, hi1, hi0, nm_e (cx_cat112 hx (fun ea h1 h2 => H _ ea ?_ h1 (fun i hi => ⟨?_, h2 i hi⟩)))⟩)⟩
  · intro q
    rw [pk_us]
    exact ⟨Or.inl, fun z => z.elim id (fun y => absurd a y.1)⟩
  · exact pk_un hi
  · intro q
    rw [pk_us, cw_orT]
    exact ⟨fun z => z.elim (fun y => Or.inr ⟨a, y⟩) Or.inl, fun z => z.elim Or.inr (fun y => Or.inl y.2)⟩
  · exact pk_un hi
theorem cx_cat {post : Int32 → SX → Prop} {x : Nat} (hx : x + 2 ≤ 6) (hla : ∀ p, bt (a_last x) p = true → p < 8)
    (H : ∀ g fa la ea : Nat → Int32, (∀ p q, bt (g p) q = true ↔ bt (a_follow p) q = true ∨ (bt (a_last x) p = true ∧ bt (a_first (x + 1)) q = true)) → (∀ q, bt (fa x) q = true ↔ bt (a_first x) q = true ∨ (¬ a_empty x = 0 ∧ bt (a_first (x + 1)) q = true)) → (∀ q, bt (la x) q = true ↔ bt (a_last (x + 1)) q = true ∨ (¬ a_empty (x + 1) = 0 ∧ bt (a_last x) q = true)) → (¬ ea x = 0 ↔ ¬ a_empty x = 0 ∧ ¬ a_empty (x + 1) = 0) → (∀ i, i ≠ x → fa i = a_first i ∧ la i = a_last i ∧ ea i = a_empty i) → post (nI (x + 1)) (f_rows, f_columns, f_lines, f_cells, nI (x + 1), f_places, f_ready, f_found, f_number, f_allOnes, f_anyOnes, a_rowOf, a_columnOf, a_pins, a_low, fa, la, ea, a_kind, g, a_turned, a_lineFirst, a_lineLast, a_lineEmpty, a_lineZeros, a_lineOnes, a_lineFollow, a_back, a_digit, a_tried, a_rowSet, a_columnSet)) :
    wpX_cat post (f_rows, f_columns, f_lines, f_cells, nI (x + 2), f_places, f_ready, f_found, f_number, f_allOnes, f_anyOnes, a_rowOf, a_columnOf, a_pins, a_low, a_first, a_last, a_empty, a_kind, a_follow, a_turned, a_lineFirst, a_lineLast, a_lineEmpty, a_lineZeros, a_lineOnes, a_lineFollow, a_back, a_digit, a_tried, a_rowSet, a_columnSet) := by
  have hi0 : vp_in (nI x) 6 := vp_in_nI (by omega) (by omega)
  have hi1 : vp_in (nI (x + 1)) 6 := vp_in_nI (by omega) (by omega)
  have e1 : nI (x + 2) - 1 = nI (x + 1) := cw_s1 (by omega)
  have e2 : nI (x + 2) - 2 = nI x := pk_sub (a := x + 2) (b := 2) (by omega)
  unfold wpX_cat
  dsimp only
  refine br_t (nI_le (a := 2) (by omega) (by omega)) (nm_r e1 (nm_r e2 ?_))
  rw [nI_clamp (n := x) (by omega), nI_clamp (n := x + 1) (by omega)]
  refine ⟨hi0, hi1, cx_link hla (fun g hg => ?_)⟩
  dsimp only
  refine ⟨hi0, br_c (fun a => cx_cat69 hx (fun la ea h1 h2 h3 => H g a_first la ea hg ?_ h1 h2 (fun i hi => ⟨rfl, h3 i hi⟩))) (fun a => ⟨hi0, hi1, hi0, nm_e (cx_cat69 hx (fun la ea h1 h2 h3 => H g _ la ea hg ?_ h1 h2 (fun i hi => ⟨?_, h3 i hi⟩)))⟩)⟩
  · intro q
    exact ⟨Or.inl, fun z => z.elim id (fun y => absurd a y.1)⟩
  · intro q
    rw [pk_us, cw_orT]
    exact ⟨fun z => z.elim Or.inl (fun y => Or.inr ⟨a, y⟩), fun z => z.elim Or.inl (fun y => Or.inr y.2)⟩
  · exact pk_un hi
theorem cx_alt {post : Int32 → SX → Prop} {x : Nat} (hx : x + 2 ≤ 6)
    (H : ∀ fa la ea : Nat → Int32, (∀ q, bt (fa x) q = true ↔ bt (a_first x) q = true ∨ bt (a_first (x + 1)) q = true) → (∀ q, bt (la x) q = true ↔ bt (a_last x) q = true ∨ bt (a_last (x + 1)) q = true) → (¬ ea x = 0 ↔ ¬ a_empty x = 0 ∨ ¬ a_empty (x + 1) = 0) → (∀ i, i ≠ x → fa i = a_first i ∧ la i = a_last i ∧ ea i = a_empty i) → post (nI (x + 1)) (f_rows, f_columns, f_lines, f_cells, nI (x + 1), f_places, f_ready, f_found, f_number, f_allOnes, f_anyOnes, a_rowOf, a_columnOf, a_pins, a_low, fa, la, ea, a_kind, a_follow, a_turned, a_lineFirst, a_lineLast, a_lineEmpty, a_lineZeros, a_lineOnes, a_lineFollow, a_back, a_digit, a_tried, a_rowSet, a_columnSet)) :
    wpX_alt post (f_rows, f_columns, f_lines, f_cells, nI (x + 2), f_places, f_ready, f_found, f_number, f_allOnes, f_anyOnes, a_rowOf, a_columnOf, a_pins, a_low, a_first, a_last, a_empty, a_kind, a_follow, a_turned, a_lineFirst, a_lineLast, a_lineEmpty, a_lineZeros, a_lineOnes, a_lineFollow, a_back, a_digit, a_tried, a_rowSet, a_columnSet) := by
  have hi0 : vp_in (nI x) 6 := vp_in_nI (by omega) (by omega)
  have hi1 : vp_in (nI (x + 1)) 6 := vp_in_nI (by omega) (by omega)
  have e1 : nI (x + 2) - 1 = nI (x + 1) := cw_s1 (by omega)
  have e2 : nI (x + 2) - 2 = nI x := pk_sub (a := x + 2) (b := 2) (by omega)
  unfold wpX_alt
  dsimp only
  refine br_t (nI_le (a := 2) (by omega) (by omega)) (nm_r e1 (nm_r e2 ?_))
  have F : ∀ e : Int32, (¬ e = 0 ↔ ¬ a_empty x = 0 ∨ ¬ a_empty (x + 1) = 0) → post (nI (x + 1)) (f_rows, f_columns, f_lines, f_cells, nI (x + 1), f_places, f_ready, f_found, f_number, f_allOnes, f_anyOnes, a_rowOf, a_columnOf, a_pins, a_low, upd a_first x (a_first x ||| a_first (x + 1)), upd a_last x (a_last x ||| a_last (x + 1)), upd a_empty x e, a_kind, a_follow, a_turned, a_lineFirst, a_lineLast, a_lineEmpty, a_lineZeros, a_lineOnes, a_lineFollow, a_back, a_digit, a_tried, a_rowSet, a_columnSet) := by
    intro e he
    refine H _ _ _ ?_ ?_ ?_ ?_
    · intro q; rw [pk_us, cw_orT]
    · intro q; rw [pk_us, cw_orT]
    · rw [pk_us]; exact he
    · intro i hi; exact ⟨pk_un hi, pk_un hi, pk_un hi⟩
  have J : (¬ a_empty x = 0 ∨ ¬ a_empty (x + 1) = 0) → wX_alt_86 post (nI (x + 1)) (nI x) f_rows f_columns f_lines f_cells (nI (x + 2)) f_places f_ready f_found f_number f_allOnes f_anyOnes a_rowOf a_columnOf a_pins a_low (upd a_first x (a_first x ||| a_first (x + 1))) (upd a_last x (a_last x ||| a_last (x + 1))) a_empty a_kind a_follow a_turned a_lineFirst a_lineLast a_lineEmpty a_lineZeros a_lineOnes a_lineFollow a_back a_digit a_tried a_rowSet a_columnSet := by
    intro h
    unfold wX_alt_86
    rw [nI_clamp (n := x) (by omega)]
    exact ⟨hi0, nm_e (F _ ⟨fun _ => h, fun _ => cw_nb1⟩)⟩
  rw [nI_clamp (n := x) (by omega), nI_clamp (n := x + 1) (by omega)]
  refine ⟨hi0, hi1, hi0, nm_e ⟨hi0, hi1, hi0, nm_e ⟨hi0, br_c (fun a => ⟨hi1, br_c (fun b => ⟨hi0, nm_e (F _ ?_)⟩) (fun b => J (Or.inr b))⟩) (fun a => J (Or.inl a))⟩⟩⟩
  rw [cw_nb0]
  exact ⟨fun h => absurd rfl h, fun h => h.elim (fun y => absurd a y) (fun y => absurd b y)⟩
theorem cx_star {post : Int32 → SX → Prop} {x : Nat} (hx : x + 1 ≤ 6) (hla : ∀ p, bt (a_last x) p = true → p < 8)
    (H : ∀ g ea : Nat → Int32, (∀ p q, bt (g p) q = true ↔ bt (a_follow p) q = true ∨ (bt (a_last x) p = true ∧ bt (a_first x) q = true)) → ¬ ea x = 0 → (∀ i, i ≠ x → ea i = a_empty i) → post (nI (x + 1)) (f_rows, f_columns, f_lines, f_cells, nI (x + 1), f_places, f_ready, f_found, f_number, f_allOnes, f_anyOnes, a_rowOf, a_columnOf, a_pins, a_low, a_first, a_last, ea, a_kind, g, a_turned, a_lineFirst, a_lineLast, a_lineEmpty, a_lineZeros, a_lineOnes, a_lineFollow, a_back, a_digit, a_tried, a_rowSet, a_columnSet)) :
    wpX_star post (f_rows, f_columns, f_lines, f_cells, nI (x + 1), f_places, f_ready, f_found, f_number, f_allOnes, f_anyOnes, a_rowOf, a_columnOf, a_pins, a_low, a_first, a_last, a_empty, a_kind, a_follow, a_turned, a_lineFirst, a_lineLast, a_lineEmpty, a_lineZeros, a_lineOnes, a_lineFollow, a_back, a_digit, a_tried, a_rowSet, a_columnSet) := by
  have hi0 : vp_in (nI x) 6 := vp_in_nI (by omega) (by omega)
  have e1 : nI (x + 1) - 1 = nI x := cw_s1 (by omega)
  unfold wpX_star
  dsimp only
  refine br_t (nI_le (a := 1) (by omega) (by omega)) (nm_r e1 ?_)
  rw [nI_clamp (n := x) (by omega)]
  refine ⟨hi0, hi0, cx_link hla (fun g hg => ?_)⟩
  dsimp only
  refine ⟨hi0, nm_e (H g _ hg ?_ (fun i hi => pk_un hi))⟩
  rw [pk_us]
  exact cw_nb1
theorem cx_turn {post : SX → Prop} {p : Nat} (hp : p < 8) (H : ∀ g : Nat → Int32, (∀ q r, q < 8 → (bt (g q) r = true ↔ bt (a_turned q) r = true ∨ (r = p ∧ bt (a_follow p) q = true))) → post (f_rows, f_columns, f_lines, f_cells, f_height, f_places, f_ready, f_found, f_number, f_allOnes, f_anyOnes, a_rowOf, a_columnOf, a_pins, a_low, a_first, a_last, a_empty, a_kind, a_follow, g, a_lineFirst, a_lineLast, a_lineEmpty, a_lineZeros, a_lineOnes, a_lineFollow, a_back, a_digit, a_tried, a_rowSet, a_columnSet)) : wpX_turn post (f_rows, f_columns, f_lines, f_cells, f_height, f_places, f_ready, f_found, f_number, f_allOnes, f_anyOnes, a_rowOf, a_columnOf, a_pins, a_low, a_first, a_last, a_empty, a_kind, a_follow, a_turned, a_lineFirst, a_lineLast, a_lineEmpty, a_lineZeros, a_lineOnes, a_lineFollow, a_back, a_digit, a_tried, a_rowSet, a_columnSet) (nI p) := by
  show ∃ n2 : Nat, wX_turn_2 post (nI p) f_rows f_columns f_lines f_cells f_height f_places f_ready f_found f_number f_allOnes f_anyOnes n2 0 a_rowOf a_columnOf a_pins a_low a_first a_last a_empty a_kind a_follow a_turned a_lineFirst a_lineLast a_lineEmpty a_lineZeros a_lineOnes a_lineFollow a_back a_digit a_tried a_rowSet a_columnSet
  refine loop_0 (fun n i (g : Nat → Int32) => wX_turn_2 post (nI p) f_rows f_columns f_lines f_cells f_height f_places f_ready f_found f_number f_allOnes f_anyOnes n (nI i) a_rowOf a_columnOf a_pins a_low a_first a_last a_empty a_kind a_follow g a_lineFirst a_lineLast a_lineEmpty a_lineZeros a_lineOnes a_lineFollow a_back a_digit a_tried a_rowSet a_columnSet) (fun i g => ∀ q r, q < 8 → (bt (g q) r = true ↔ bt (a_turned q) r = true ∨ (q < i ∧ r = p ∧ bt (a_follow p) q = true))) 8 a_turned ?_ ?_ ?_
  · exact fun q r _ => ⟨Or.inl, fun z => z.elim id (fun y => absurd y.1 (Nat.not_lt_zero _))⟩
  · intro n g h1
    refine br_t (nI_le (a := 8) (b := 8) (by omega) (by omega)) (H g (fun q r hq => ?_))
    rw [h1 q r hq]
    exact ⟨fun z => z.elim Or.inl (fun y => Or.inr y.2), fun z => z.elim Or.inl (fun y => Or.inr ⟨hq, y⟩)⟩
  · intro n i g hi h1 K
    refine br_f (nI_ge (b := 8) hi (by omega)) ⟨vp_in_nI hp (by omega), ?_⟩
    rw [nI_clamp (n := p) (by omega), nI_clamp (n := i) (by omega)]
    refine cw_if (cw_test (by omega)) (fun a => ?_) (fun a => ?_)
    · refine ⟨vp_in_nI hi (by omega), vp_in_nI hi (by omega), nm_e (nm_r (nI_1 i) (K _ (fun q r hq => ?_)))⟩
      rw [cw_updor, h1 q r hq, cw_bitT (by omega)]
      constructor
      · rintro ((b | ⟨b, c⟩) | ⟨rfl, d⟩)
        · exact Or.inl b
        · exact Or.inr ⟨by omega, c⟩
        · exact Or.inr ⟨by omega, d, a⟩
      · rintro (b | ⟨b, c, d⟩)
        · exact Or.inl (Or.inl b)
        · by_cases e : q = i
          · exact Or.inr ⟨e, c⟩
          · exact Or.inl (Or.inr ⟨by omega, c, d⟩)
    · refine nm_r (nI_1 i) (K g (fun q r hq => ?_))
      rw [h1 q r hq]
      constructor
      · rintro (b | ⟨b, c⟩)
        · exact Or.inl b
        · exact Or.inr ⟨by omega, c⟩
      · rintro (b | ⟨b, c, d⟩)
        · exact Or.inl b
        · by_cases e : q = i
          · subst e; exact absurd d a
          · exact Or.inr ⟨by omega, c, d⟩
end
end
section
/-! ===== the component: reverse, setLine, anyWord, pins ===== -/
section
variable {f_rows f_columns f_lines f_cells f_height f_places f_ready f_found f_number f_allOnes f_anyOnes : Int32} {a_rowOf a_columnOf a_pins a_low a_first a_last a_empty a_kind a_follow a_turned a_lineFirst a_lineLast a_lineEmpty a_lineZeros a_lineOnes a_lineFollow a_back a_digit a_tried a_rowSet a_columnSet : Nat → Int32}
theorem cx_rev72 {post : Int32 → SX → Prop} {x lo pl : Nat} (hx : x + 1 ≤ 6) (hlo : lo ≤ pl) (hpl : pl ≤ 8)
    (H : ∀ f fa la : Nat → Int32, (∀ r, lo ≤ r → r < pl → f r = a_turned r) → (∀ r, ¬ (lo ≤ r ∧ r < pl) → f r = a_follow r) → fa x = a_last x → la x = a_first x → (∀ i, i ≠ x → fa i = a_first i ∧ la i = a_last i) → post (nI (x + 1)) (f_rows, f_columns, f_lines, f_cells, nI (x + 1), nI pl, f_ready, f_found, f_number, f_allOnes, f_anyOnes, a_rowOf, a_columnOf, a_pins, a_low, fa, la, a_empty, a_kind, f, a_turned, a_lineFirst, a_lineLast, a_lineEmpty, a_lineZeros, a_lineOnes, a_lineFollow, a_back, a_digit, a_tried, a_rowSet, a_columnSet)) :
    ∃ n, wX_reverse_72 post (nI x) f_rows f_columns f_lines f_cells (nI (x + 1)) (nI pl) f_ready f_found f_number f_allOnes f_anyOnes n (nI lo) a_rowOf a_columnOf a_pins a_low a_first a_last a_empty a_kind a_follow a_turned a_lineFirst a_lineLast a_lineEmpty a_lineZeros a_lineOnes a_lineFollow a_back a_digit a_tried a_rowSet a_columnSet := by
  have hi0 : vp_in (nI x) 6 := vp_in_nI (by omega) (by omega)
  refine pk_loop (fun n i (f : Nat → Int32) => wX_reverse_72 post (nI x) f_rows f_columns f_lines f_cells (nI (x + 1)) (nI pl) f_ready f_found f_number f_allOnes f_anyOnes n (nI i) a_rowOf a_columnOf a_pins a_low a_first a_last a_empty a_kind f a_turned a_lineFirst a_lineLast a_lineEmpty a_lineZeros a_lineOnes a_lineFollow a_back a_digit a_tried a_rowSet a_columnSet) (fun i f => lo ≤ i ∧ (∀ r, lo ≤ r → r < i → f r = a_turned r) ∧ (∀ r, ¬ (lo ≤ r ∧ r < i) → f r = a_follow r)) pl lo a_follow hlo ⟨Nat.le_refl _, fun r a b => absurd a (by omega), fun _ _ => rfl⟩ ?_ ?_
  · intro n f ⟨_, h1, h2⟩
    refine br_t (nI_le (Nat.le_refl _) (by omega)) ?_
    rw [nI_clamp (n := x) (by omega)]
    exact ⟨hi0, nm_e ⟨hi0, hi0, nm_e ⟨hi0, nm_e (H f _ _ h1 h2 pk_us pk_us (fun i hi => ⟨pk_un hi, pk_un hi⟩))⟩⟩⟩
  · intro n i f hi ⟨h0, h1, h2⟩ K
    have hi8 : vp_in (nI i) 8 := vp_in_nI (by omega) (by omega)
    refine br_f (nI_ge hi (by omega)) ⟨hi8, hi8, nm_e (nm_r (nI_1 i) (K _ ⟨by omega, ?_, ?_⟩))⟩
    · intro r a b
      rw [nI_clamp (by omega)]
      by_cases e : r = i
      · subst e; exact pk_us
      · rw [pk_un e]; exact h1 r a (by omega)
    · intro r a
      rw [nI_clamp (by omega), pk_un (fun e => a ⟨by omega, by omega⟩)]
      exact h2 r (fun z => a ⟨by omega, by omega⟩)
theorem cx_reverse {post : Int32 → SX → Prop} {x lo pl : Nat} (hx : x + 1 ≤ 6) (hlo : lo ≤ pl) (hpl : pl ≤ 8) (hlow : a_low x = nI lo)
    (H : ∀ f fa la tu : Nat → Int32, (∀ r q, lo ≤ r → r < pl → (bt (f r) q = true ↔ (lo ≤ q ∧ q < pl) ∧ bt (a_follow q) r = true)) → (∀ r, ¬ (lo ≤ r ∧ r < pl) → f r = a_follow r) → fa x = a_last x → la x = a_first x → (∀ i, i ≠ x → fa i = a_first i ∧ la i = a_last i) → post (nI (x + 1)) (f_rows, f_columns, f_lines, f_cells, nI (x + 1), nI pl, f_ready, f_found, f_number, f_allOnes, f_anyOnes, a_rowOf, a_columnOf, a_pins, a_low, fa, la, a_empty, a_kind, f, tu, a_lineFirst, a_lineLast, a_lineEmpty, a_lineZeros, a_lineOnes, a_lineFollow, a_back, a_digit, a_tried, a_rowSet, a_columnSet)) :
    wpX_reverse post (f_rows, f_columns, f_lines, f_cells, nI (x + 1), nI pl, f_ready, f_found, f_number, f_allOnes, f_anyOnes, a_rowOf, a_columnOf, a_pins, a_low, a_first, a_last, a_empty, a_kind, a_follow, a_turned, a_lineFirst, a_lineLast, a_lineEmpty, a_lineZeros, a_lineOnes, a_lineFollow, a_back, a_digit, a_tried, a_rowSet, a_columnSet) := by
  have hi0 : vp_in (nI x) 6 := vp_in_nI (by omega) (by omega)
  have e1 : nI (x + 1) - 1 = nI x := cw_s1 (by omega)
  unfold wpX_reverse
  dsimp only
  refine br_t (nI_le (a := 1) (by omega) (by omega)) (nm_r e1 ?_)
  refine loop_0 (fun n i (tu : Nat → Int32) => wX_reverse_20 post (nI x) f_rows f_columns f_lines f_cells (nI (x + 1)) (nI pl) f_ready f_found f_number f_allOnes f_anyOnes n (nI i) a_rowOf a_columnOf a_pins a_low a_first a_last a_empty a_kind a_follow tu a_lineFirst a_lineLast a_lineEmpty a_lineZeros a_lineOnes a_lineFollow a_back a_digit a_tried a_rowSet a_columnSet) (fun i tu => ∀ q, q < i → tu q = 0) 8 a_turned (fun q h => absurd h (Nat.not_lt_zero _)) ?_ ?_
  · intro n tu h0
    refine br_t (nI_le (a := 8) (b := 8) (by omega) (by omega)) ⟨hi0, nm_r (e' := nI lo) (by rw [nI_clamp (by omega), hlow]) ?_⟩
    refine pk_loop (fun n i (tu : Nat → Int32) => wX_reverse_46 post (nI x) n (nI i) f_rows f_columns f_lines f_cells (nI (x + 1)) (nI pl) f_ready f_found f_number f_allOnes f_anyOnes a_rowOf a_columnOf a_pins a_low a_first a_last a_empty a_kind a_follow tu a_lineFirst a_lineLast a_lineEmpty a_lineZeros a_lineOnes a_lineFollow a_back a_digit a_tried a_rowSet a_columnSet) (fun i tu => lo ≤ i ∧ ∀ q r, q < 8 → (bt (tu q) r = true ↔ (lo ≤ r ∧ r < i) ∧ bt (a_follow r) q = true)) pl lo tu hlo ?_ ?_ ?_
    · refine ⟨Nat.le_refl _, ?_⟩
      intro q r hq
      rw [h0 q hq, b_0]
      exact ⟨fun z => absurd z (by decide), fun z => absurd z.1 (by omega)⟩
    · intro n tu ⟨_, h1⟩
      refine br_t (nI_le (Nat.le_refl _) (by omega)) ⟨hi0, nm_r (e' := nI lo) (by rw [nI_clamp (by omega), hlow]) ?_⟩
      refine cx_rev72 hx hlo hpl (fun f fa la g1 g2 g3 g4 g5 => H f fa la tu ?_ g2 g3 g4 g5)
      intro r q a b
      rw [g1 r a b]
      exact h1 r q (by omega)
    · intro n i tu hi ⟨hli, h1⟩ K
      refine br_f (nI_ge hi (by omega)) (cx_turn (by omega) (fun g hg => ?_))
      refine nm_r (nI_1 i) (K g ⟨by omega, fun q r hq => ?_⟩)
      rw [hg q r hq, h1 q r hq]
      constructor
      · rintro (⟨⟨a, b⟩, c⟩ | ⟨rfl, c⟩)
        · exact ⟨⟨a, by omega⟩, c⟩
        · exact ⟨⟨hli, by omega⟩, c⟩
      · rintro ⟨⟨a, b⟩, c⟩
        by_cases e : r = i
        · subst e; exact Or.inr ⟨rfl, c⟩
        · exact Or.inl ⟨⟨a, by omega⟩, c⟩
  · intro n i tu hi h1 K
    refine br_f (nI_ge (b := 8) hi (by omega)) ⟨vp_in_nI hi (by omega), nm_e (nm_r (nI_1 i) (K _ ?_))⟩
    intro q hq
    rw [nI_clamp (by omega)]
    by_cases e : q = i
    · subst e; exact pk_us
    · rw [pk_un e]; exact h1 q (by omega)
end
end
section
/-! ===== the component: setLine, anyWord, pins ===== -/
/-- z l is the set of letters below p whose kind isn't v, shifted down -/
def cw_ZP (l lo p : Nat) (v : Int32) (kind z z0 : Nat → Int32) : Prop := (∀ q, bt (z l) q = true ↔ q + lo < p ∧ ¬ kind (q + lo) = v) ∧ ∀ i, i ≠ l → z i = z0 i
theorem cw_ZP0 {l lo : Nat} {v : Int32} {kind z0 : Nat → Int32} (h : z0 l = 0) : cw_ZP l lo lo v kind z0 z0 := by
  refine ⟨fun q => ?_, fun _ _ => rfl⟩
  rw [h, b_0]
  exact ⟨fun z => absurd z (by decide), fun z => absurd z.1 (by omega)⟩
theorem cw_ZPk {l lo p : Nat} {v : Int32} {kind z z0 : Nat → Int32} (h : cw_ZP l lo p v kind z z0) (hk : kind p = v) : cw_ZP l lo (p + 1) v kind z z0 := by
  refine ⟨fun q => ?_, h.2⟩
  rw [h.1 q]
  constructor
  · exact fun y => ⟨by omega, y.2⟩
  · intro ⟨a, b⟩
    by_cases e : q + lo = p
    · rw [e] at b; exact absurd hk b
    · exact ⟨by omega, b⟩
theorem cw_ZPs {l lo p : Nat} {v : Int32} {kind z z0 : Nat → Int32} (h : cw_ZP l lo p v kind z z0) (hk : ¬ kind p = v) (hp : lo ≤ p) (h8 : p < 8) : cw_ZP l lo (p + 1) v kind (upd z l (z l ||| (1 : Int32) <<< (nI (p - lo) &&& 31))) z0 := by
  refine ⟨fun q => ?_, fun i hi => ?_⟩
  · rw [pk_us, cw_orT, cw_bitT (by omega), h.1 q]
    constructor
    · rintro (⟨a, b⟩ | a)
      · exact ⟨by omega, b⟩
      · have e : q + lo = p := by omega
        rw [e]
        exact ⟨by omega, hk⟩
    · intro ⟨a, b⟩
      by_cases e : q + lo = p
      · exact Or.inr (by omega)
      · exact Or.inl ⟨by omega, b⟩
  · rw [pk_un hi]; exact h.2 i hi
section
variable {f_rows f_columns f_lines f_cells f_height f_places f_ready f_found f_number f_allOnes f_anyOnes : Int32} {a_rowOf a_columnOf a_pins a_low a_first a_last a_empty a_kind a_follow a_turned a_lineFirst a_lineLast a_lineEmpty a_lineZeros a_lineOnes a_lineFollow a_back a_digit a_tried a_rowSet a_columnSet : Nat → Int32}
theorem cx_set96 {post : Int32 → SX → Prop} {l x lo pl : Nat} (hl : l < 7) (hlo : lo ≤ pl) (hpl : pl ≤ 8) (hz0 : a_lineZeros l = 0) (ho0 : a_lineOnes l = 0)
    (H : ∀ z o f : Nat → Int32, cw_ZP l lo pl 1 a_kind z a_lineZeros → cw_ZP l lo pl 0 a_kind o a_lineOnes → (∀ q, q + lo < pl → f (l * 8 + q) = a_follow (q + lo) >>> (nI lo &&& 31)) → (∀ j, ¬ (l * 8 ≤ j ∧ j < l * 8 + 8) → f j = a_lineFollow j) → post (nI x) (f_rows, f_columns, f_lines, f_cells, nI x, nI lo, 0, f_found, f_number, f_allOnes, f_anyOnes, a_rowOf, a_columnOf, a_pins, a_low, a_first, a_last, a_empty, a_kind, a_follow, a_turned, a_lineFirst, a_lineLast, a_lineEmpty, z, o, f, a_back, a_digit, a_tried, a_rowSet, a_columnSet)) :
    ∃ n, wX_setLine_96 post (nI l) (nI x) (nI lo) f_rows f_columns f_lines f_cells f_height (nI pl) f_ready f_found f_number f_allOnes f_anyOnes n (nI lo) a_rowOf a_columnOf a_pins a_low a_first a_last a_empty a_kind a_follow a_turned a_lineFirst a_lineLast a_lineEmpty a_lineZeros a_lineOnes a_lineFollow a_back a_digit a_tried a_rowSet a_columnSet := by
  have hl7 : vp_in (nI l) 7 := vp_in_nI hl (by omega)
  refine pk_loop (σ := (Nat → Int32) × (Nat → Int32) × (Nat → Int32)) (fun n i s => wX_setLine_96 post (nI l) (nI x) (nI lo) f_rows f_columns f_lines f_cells f_height (nI pl) f_ready f_found f_number f_allOnes f_anyOnes n (nI i) a_rowOf a_columnOf a_pins a_low a_first a_last a_empty a_kind a_follow a_turned a_lineFirst a_lineLast a_lineEmpty s.1 s.2.1 s.2.2 a_back a_digit a_tried a_rowSet a_columnSet) (fun i s => lo ≤ i ∧ cw_ZP l lo i 1 a_kind s.1 a_lineZeros ∧ cw_ZP l lo i 0 a_kind s.2.1 a_lineOnes ∧ (∀ q, q + lo < i → s.2.2 (l * 8 + q) = a_follow (q + lo) >>> (nI lo &&& 31)) ∧ (∀ j, ¬ (l * 8 ≤ j ∧ j < l * 8 + 8) → s.2.2 j = a_lineFollow j)) pl lo (a_lineZeros, a_lineOnes, a_lineFollow) hlo ⟨Nat.le_refl _, cw_ZP0 hz0, cw_ZP0 ho0, fun q h => absurd h (by omega), fun _ _ => rfl⟩ ?_ ?_
  · intro n ⟨z, o, f⟩ ⟨_, h1, h2, h3, h4⟩
    exact br_t (nI_le (Nat.le_refl _) (by omega)) (H z o f h1 h2 h3 h4)
  · intro n p ⟨z, o, f⟩ hp ⟨h0, h1, h2, h3, h4⟩ K
    dsimp only at h1 h2 h3 h4 ⊢
    have hp8 : vp_in (nI p) 8 := vp_in_nI (by omega) (by omega)
    have ix : ((nI l * 8) + nI p) - nI lo = nI (l * 8 + p - lo) := by
      show nI l * nI 8 + nI p - nI lo = _
      rw [pk_mul, nI_add, pk_sub (by omega)]
    have J164 : ∀ z' o' : Nat → Int32, cw_ZP l lo (p + 1) 1 a_kind z' a_lineZeros → cw_ZP l lo (p + 1) 0 a_kind o' a_lineOnes → wX_setLine_164 post (wX_setLine_96 post (nI l) (nI x) (nI lo) f_rows f_columns f_lines f_cells f_height (nI pl) f_ready f_found f_number f_allOnes f_anyOnes n) (nI l) (nI x) (nI lo) (nI p) f_rows f_columns f_lines f_cells f_height (nI pl) f_ready f_found f_number f_allOnes f_anyOnes a_rowOf a_columnOf a_pins a_low a_first a_last a_empty a_kind a_follow a_turned a_lineFirst a_lineLast a_lineEmpty z' o' f a_back a_digit a_tried a_rowSet a_columnSet := by
      intro z' o' g1 g2
      unfold wX_setLine_164
      rw [ix, nI_clamp (n := p) (by omega), nI_clamp (n := l * 8 + p - lo) (by omega)]
      refine ⟨hp8, vp_in_nI (by omega) (by omega), nm_e (nm_r (nI_1 p) (K (z', o', _) ⟨by omega, g1, g2, ?_, ?_⟩))⟩
      · intro q hq
        by_cases e : q + lo = p
        · show upd f (l * 8 + p - lo) (a_follow p >>> (nI lo &&& 31)) (l * 8 + q) = _
          rw [show l * 8 + q = l * 8 + p - lo from by omega, pk_us, e]
        · show upd f (l * 8 + p - lo) (a_follow p >>> (nI lo &&& 31)) (l * 8 + q) = _
          rw [pk_un (by omega)]
          exact h3 q (by omega)
      · intro j hj
        show upd f (l * 8 + p - lo) (a_follow p >>> (nI lo &&& 31)) j = _
        rw [pk_un (fun e => hj (by omega))]
        exact h4 j hj
    have J139 : ∀ z' : Nat → Int32, cw_ZP l lo (p + 1) 1 a_kind z' a_lineZeros → wX_setLine_139 post (wX_setLine_96 post (nI l) (nI x) (nI lo) f_rows f_columns f_lines f_cells f_height (nI pl) f_ready f_found f_number f_allOnes f_anyOnes n) (nI l) (nI x) (nI lo) (nI p) ((1 : Int32) <<< (nI (p - lo) &&& 31)) f_rows f_columns f_lines f_cells f_height (nI pl) f_ready f_found f_number f_allOnes f_anyOnes a_rowOf a_columnOf a_pins a_low a_first a_last a_empty a_kind a_follow a_turned a_lineFirst a_lineLast a_lineEmpty z' o f a_back a_digit a_tried a_rowSet a_columnSet := by
      intro z' g1
      unfold wX_setLine_139
      rw [nI_clamp (n := p) (by omega), nI_clamp (n := l) (by omega)]
      exact ⟨hp8, br_c (fun a => J164 z' o g1 (cw_ZPk h2 a)) (fun a => ⟨hl7, hl7, nm_e (J164 z' _ g1 (cw_ZPs h2 a h0 (by omega)))⟩)⟩
    refine br_f (nI_ge hp (by omega)) (nm_r (e' := (1 : Int32) <<< (nI (p - lo) &&& 31)) (by rw [pk_sub h0]) ⟨hp8, ?_⟩)
    rw [nI_clamp (n := p) (by omega), nI_clamp (n := l) (by omega)]
    exact br_c (fun a => J139 z (cw_ZPk h1 a)) (fun a => ⟨hl7, hl7, nm_e (J139 _ (cw_ZPs h1 a h0 (by omega)))⟩)
theorem cx_setLine {post : Int32 → SX → Prop} {l L x lo pl : Nat} (hl : l < L) (hL : L ≤ 7) (hx : x + 1 ≤ 6) (hlo : lo ≤ pl) (hpl : pl ≤ 8) (hlow : a_low x = nI lo)
    (H : ∀ le z o f : Nat → Int32, (∀ q, bt (z l) q = true ↔ q + lo < pl ∧ ¬ a_kind (q + lo) = 1) → (∀ i, i ≠ l → z i = a_lineZeros i) → (∀ q, bt (o l) q = true ↔ q + lo < pl ∧ ¬ a_kind (q + lo) = 0) → (∀ i, i ≠ l → o i = a_lineOnes i) → (∀ q, q + lo < pl → f (l * 8 + q) = a_follow (q + lo) >>> (nI lo &&& 31)) → (∀ j, ¬ (l * 8 ≤ j ∧ j < l * 8 + 8) → f j = a_lineFollow j) → post (nI x) (f_rows, f_columns, nI L, f_cells, nI x, nI lo, 0, f_found, f_number, f_allOnes, f_anyOnes, a_rowOf, a_columnOf, a_pins, a_low, a_first, a_last, a_empty, a_kind, a_follow, a_turned, upd a_lineFirst l (a_first x >>> (nI lo &&& 31)), upd a_lineLast l (a_last x >>> (nI lo &&& 31)), le, z, o, f, a_back, a_digit, a_tried, a_rowSet, a_columnSet)) :
    wpX_setLine post (f_rows, f_columns, nI L, f_cells, nI (x + 1), nI pl, f_ready, f_found, f_number, f_allOnes, f_anyOnes, a_rowOf, a_columnOf, a_pins, a_low, a_first, a_last, a_empty, a_kind, a_follow, a_turned, a_lineFirst, a_lineLast, a_lineEmpty, a_lineZeros, a_lineOnes, a_lineFollow, a_back, a_digit, a_tried, a_rowSet, a_columnSet) (nI l) := by
  have hi0 : vp_in (nI x) 6 := vp_in_nI (by omega) (by omega)
  have hl7 : vp_in (nI l) 7 := vp_in_nI (by omega) (by omega)
  have e1 : nI (x + 1) - 1 = nI x := cw_s1 (by omega)
  unfold wpX_setLine
  dsimp only
  refine br_f (nI_pos (by omega)) (br_t (nI_lt hl (by omega)) (br_t (nI_le (a := 1) (by omega) (by omega)) (nm_r e1 ?_)))
  rw [nI_clamp (n := x) (by omega), nI_clamp (n := l) (by omega)]
  refine ⟨hi0, nm_r hlow ⟨hi0, hl7, nm_e ⟨hi0, hl7, nm_e ⟨hi0, hl7, nm_e ⟨hl7, nm_e ⟨hl7, nm_e ?_⟩⟩⟩⟩⟩⟩
  refine cx_set96 (by omega) hlo hpl pk_us pk_us (fun z o f h1 h2 h3 h4 => H _ z o f h1.1 (fun i hi => ?_) h2.1 (fun i hi => ?_) h3 h4)
  · rw [h1.2 i hi, pk_un hi]
  · rw [h2.2 i hi, pk_un hi]
theorem cx_anyWord {post : SX → Prop} {l : Nat} (hl : l < 7)
    (H : ∀ f : Nat → Int32, f (l * 8) = 1 → (∀ q, 1 ≤ q → q < 8 → f (l * 8 + q) = 0) → (∀ j, ¬ (l * 8 ≤ j ∧ j < l * 8 + 8) → f j = a_lineFollow j) → post (f_rows, f_columns, f_lines, f_cells, f_height, f_places, 0, f_found, f_number, f_allOnes, f_anyOnes, a_rowOf, a_columnOf, a_pins, a_low, a_first, a_last, a_empty, a_kind, a_follow, a_turned, upd a_lineFirst l 1, upd a_lineLast l 1, upd a_lineEmpty l (vp_nar .boolean 1), upd a_lineZeros l 1, upd a_lineOnes l 1, f, a_back, a_digit, a_tried, a_rowSet, a_columnSet)) :
    wpX_anyWord post (f_rows, f_columns, f_lines, f_cells, f_height, f_places, f_ready, f_found, f_number, f_allOnes, f_anyOnes, a_rowOf, a_columnOf, a_pins, a_low, a_first, a_last, a_empty, a_kind, a_follow, a_turned, a_lineFirst, a_lineLast, a_lineEmpty, a_lineZeros, a_lineOnes, a_lineFollow, a_back, a_digit, a_tried, a_rowSet, a_columnSet) (nI l) := by
  have hl7 : vp_in (nI l) 7 := vp_in_nI (by omega) (by omega)
  have e8 : nI l * 8 = nI (l * 8) := pk_mul l 8
  unfold wpX_anyWord
  dsimp only
  rw [nI_clamp (n := l) (by omega)]
  refine ⟨hl7, nm_e ⟨hl7, nm_e ⟨hl7, nm_e ⟨hl7, nm_e ⟨hl7, nm_e ?_⟩⟩⟩⟩⟩
  refine loop_0 (fun n i (f : Nat → Int32) => wX_anyWord_37 post (nI l) f_rows f_columns f_lines f_cells f_height f_places f_ready f_found f_number f_allOnes f_anyOnes n (nI i) a_rowOf a_columnOf a_pins a_low a_first a_last a_empty a_kind a_follow a_turned (upd a_lineFirst l 1) (upd a_lineLast l 1) (upd a_lineEmpty l (vp_nar .boolean 1)) (upd a_lineZeros l 1) (upd a_lineOnes l 1) f a_back a_digit a_tried a_rowSet a_columnSet) (fun i f => (∀ q, q < i → f (l * 8 + q) = 0) ∧ (∀ j, ¬ (l * 8 ≤ j ∧ j < l * 8 + 8) → f j = a_lineFollow j)) 8 a_lineFollow ⟨fun q h => absurd h (Nat.not_lt_zero _), fun _ _ => rfl⟩ ?_ ?_
  · intro n f ⟨h1, h2⟩
    refine br_t (nI_le (a := 8) (b := 8) (by omega) (by omega)) ?_
    rw [e8, nI_clamp (n := l * 8) (by omega)]
    refine ⟨vp_in_nI (by omega) (by omega), nm_e (H _ pk_us ?_ ?_)⟩
    · intro q a b
      rw [pk_un (by omega)]
      exact h1 q b
    · intro j hj
      rw [pk_un (fun e => hj (by omega))]
      exact h2 j hj
  · intro n i f hi ⟨h1, h2⟩ K
    refine br_f (nI_ge (b := 8) hi (by omega)) ?_
    rw [e8, nI_add, nI_clamp (n := l * 8 + i) (by omega)]
    refine ⟨vp_in_nI (by omega) (by omega), nm_e (nm_r (nI_1 i) (K _ ⟨?_, ?_⟩))⟩
    · intro q hq
      by_cases e : q = i
      · subst e; exact pk_us
      · rw [pk_un (by omega)]; exact h1 q (by omega)
    · intro j hj
      rw [pk_un (fun e => hj (by omega))]
      exact h2 j hj
theorem cx_inGridT {post : Int32 → Prop} {R C r c : Nat} (hrc : cw_RC R C) (hr : r < R) (hc : c < C) (h : post 1) : wpX_inGrid post (nI R, nI C, f_lines, f_cells, f_height, f_places, f_ready, f_found, f_number, f_allOnes, f_anyOnes, a_rowOf, a_columnOf, a_pins, a_low, a_first, a_last, a_empty, a_kind, a_follow, a_turned, a_lineFirst, a_lineLast, a_lineEmpty, a_lineZeros, a_lineOnes, a_lineFollow, a_back, a_digit, a_tried, a_rowSet, a_columnSet) (nI r) (nI c) := by
  obtain ⟨h1, h2, h3, h4⟩ := hrc
  exact br_f (nI_pos (by omega)) (br_f (nI_ge hr (by omega)) (br_f (nI_pos (by omega)) (br_f (nI_ge hc (by omega)) h)))
theorem cx_inGridF {post : Int32 → Prop} {R C : Nat} {p0 p1 : Int32} (hrc : cw_RC R C) (hn : ¬ ∃ r c, r < R ∧ c < C ∧ p0 = nI r ∧ p1 = nI c) (h : post 0) : wpX_inGrid post (nI R, nI C, f_lines, f_cells, f_height, f_places, f_ready, f_found, f_number, f_allOnes, f_anyOnes, a_rowOf, a_columnOf, a_pins, a_low, a_first, a_last, a_empty, a_kind, a_follow, a_turned, a_lineFirst, a_lineLast, a_lineEmpty, a_lineZeros, a_lineOnes, a_lineFollow, a_back, a_digit, a_tried, a_rowSet, a_columnSet) p0 p1 := by
  obtain ⟨h1, h2, h3, h4⟩ := hrc
  refine br_c (fun _ => h) (fun a => br_c (fun _ => h) (fun b => br_c (fun _ => h) (fun c => br_c (fun _ => h) (fun d => ?_))))
  obtain ⟨r, hr, rfl⟩ := nI_of a
  obtain ⟨q, hq, rfl⟩ := nI_of c
  rw [nI_leI (by omega) hr] at b
  rw [nI_leI (by omega) hq] at d
  exact absurd ⟨r, q, by omega, by omega, rfl, rfl⟩ hn
theorem cx_pin {post : Int32 → SX → Prop} {R C r c : Nat} {v : Int32} (hrc : cw_RC R C) (hr : r < R) (hc : c < C) (h0 : ¬ v < 0) (h2 : v ≤ 2) (H : post (a_pins (r * C + c)) (nI R, nI C, f_lines, f_cells, f_height, f_places, 0, f_found, f_number, f_allOnes, f_anyOnes, a_rowOf, a_columnOf, upd a_pins (r * C + c) v, a_low, a_first, a_last, a_empty, a_kind, a_follow, a_turned, a_lineFirst, a_lineLast, a_lineEmpty, a_lineZeros, a_lineOnes, a_lineFollow, a_back, a_digit, a_tried, a_rowSet, a_columnSet)) : wpX_pin post (nI R, nI C, f_lines, f_cells, f_height, f_places, f_ready, f_found, f_number, f_allOnes, f_anyOnes, a_rowOf, a_columnOf, a_pins, a_low, a_first, a_last, a_empty, a_kind, a_follow, a_turned, a_lineFirst, a_lineLast, a_lineEmpty, a_lineZeros, a_lineOnes, a_lineFollow, a_back, a_digit, a_tried, a_rowSet, a_columnSet) (nI r) (nI c) v := by
  have hN := cw_N12 hrc
  have hd := cw_rc hr hc
  have hi : vp_in (nI (r * C + c)) 12 := vp_in_nI (by omega) (by omega)
  unfold wpX_pin
  dsimp only
  refine cx_inGridT hrc hr hc (br_f (by decide) (br_f h0 (br_t h2 (nm_r (e' := nI (r * C + c)) (by rw [pk_mul, nI_add]) ?_))))
  rw [nI_clamp (by omega)]
  exact ⟨hi, nm_e ⟨hi, nm_e H⟩⟩
theorem cx_pinned {post : Int32 → Prop} {R C r c : Nat} (hrc : cw_RC R C) (hr : r < R) (hc : c < C) (H : post (a_pins (r * C + c))) : wpX_pinned post (nI R, nI C, f_lines, f_cells, f_height, f_places, f_ready, f_found, f_number, f_allOnes, f_anyOnes, a_rowOf, a_columnOf, a_pins, a_low, a_first, a_last, a_empty, a_kind, a_follow, a_turned, a_lineFirst, a_lineLast, a_lineEmpty, a_lineZeros, a_lineOnes, a_lineFollow, a_back, a_digit, a_tried, a_rowSet, a_columnSet) (nI r) (nI c) := by
  have hN := cw_N12 hrc
  have hd := cw_rc hr hc
  unfold wpX_pinned
  dsimp only
  refine cx_inGridT hrc hr hc (br_f (by decide) ?_)
  rw [pk_mul, nI_add, nI_clamp (by omega)]
  exact ⟨vp_in_nI (by omega) (by omega), H⟩
end
end
section
/-! ===== the component: the machines ===== -/
def cw_FX (fi : Int32) (fo : Nat → Int32) (p q : Nat) : Prop := bt (if p = 8 then fi else fo p) q = true
def cw_KL (ze on : Int32) (q v : Nat) : Prop := bt (if v = 0 then ze else on) q = true
theorem cw_FX8 {fi : Int32} {fo : Nat → Int32} {q : Nat} : cw_FX fi fo 8 q ↔ bt fi q = true := Iff.rfl
theorem cw_FXp {fi : Int32} {fo : Nat → Int32} {p q : Nat} (h : p < 8) : cw_FX fi fo p q ↔ bt (fo p) q = true := by
  unfold cw_FX
  rw [if_neg (by omega)]
theorem cw_st (x : Int32) : (x &&& 256) = 0 ↔ ¬ bt x 8 = true := by
  rw [cw_zero]
  constructor
  · intro h e
    have z := h 8
    rw [b_and, e, cw_256] at z
    exact absurd z (by decide)
  · intro h i
    rw [b_and, cw_256]
    by_cases e : i = 8
    · subst e
      cases z : bt x 8
      · rfl
      · exact absurd z h
    · rw [decide_eq_false e, Bool.and_false]
section
variable {f_rows f_columns f_lines f_cells f_height f_places f_ready f_found f_number f_allOnes f_anyOnes : Int32} {a_rowOf a_columnOf a_pins a_low a_first a_last a_empty a_kind a_follow a_turned a_lineFirst a_lineLast a_lineEmpty a_lineZeros a_lineOnes a_lineFollow a_back a_digit a_tried a_rowSet a_columnSet : Nat → Int32}
theorem cx_step22 {post : Int32 → Prop} {l v : Nat} {set r0 : Int32} (hl : l < 7) (hv : v < 2) (h0 : ∀ q, bt r0 q = true ↔ bt set 8 = true ∧ bt (a_lineFirst l) q = true)
    (H : ∀ r, (∀ q, bt r q = true ↔ (∃ p, p < 9 ∧ bt set p = true ∧ cw_FX (a_lineFirst l) (fun p => a_lineFollow (l * 8 + p)) p q) ∧ cw_KL (a_lineZeros l) (a_lineOnes l) q v) → post r) :
    ∃ n, wX_step_22 post (nI l) set (nI v) f_rows f_columns f_lines f_cells f_height f_places f_ready f_found f_number f_allOnes f_anyOnes a_rowOf a_columnOf a_pins a_low a_first a_last a_empty a_kind a_follow a_turned a_lineFirst a_lineLast a_lineEmpty a_lineZeros a_lineOnes a_lineFollow a_back a_digit a_tried a_rowSet a_columnSet n r0 0 := by
  have hl7 : vp_in (nI l) 7 := vp_in_nI hl (by omega)
  have e8 : nI l * 8 = nI (l * 8) := pk_mul l 8
  refine loop_0 (fun n i s => wX_step_22 post (nI l) set (nI v) f_rows f_columns f_lines f_cells f_height f_places f_ready f_found f_number f_allOnes f_anyOnes a_rowOf a_columnOf a_pins a_low a_first a_last a_empty a_kind a_follow a_turned a_lineFirst a_lineLast a_lineEmpty a_lineZeros a_lineOnes a_lineFollow a_back a_digit a_tried a_rowSet a_columnSet n s (nI i)) (fun i s => ∀ q, bt s q = true ↔ (bt set 8 = true ∧ bt (a_lineFirst l) q = true) ∨ ∃ p, p < i ∧ bt set p = true ∧ bt (a_lineFollow (l * 8 + p)) q = true) 8 r0 ?_ ?_ ?_
  · intro q
    rw [h0 q]
    exact ⟨Or.inl, fun z => z.elim id (fun ⟨p, a, _⟩ => absurd a (Nat.not_lt_zero _))⟩
  · intro n s hI
    have hs : ∀ q, bt s q = true ↔ ∃ p, p < 9 ∧ bt set p = true ∧ cw_FX (a_lineFirst l) (fun p => a_lineFollow (l * 8 + p)) p q := by
      intro q
      rw [hI q]
      constructor
      · rintro (⟨a, b⟩ | ⟨p, a, b, c⟩)
        · exact ⟨8, by omega, a, b⟩
        · exact ⟨p, by omega, b, (cw_FXp a).mpr c⟩
      · intro ⟨p, a, b, c⟩
        by_cases e : p = 8
        · subst e; exact Or.inl ⟨b, c⟩
        · exact Or.inr ⟨p, by omega, b, (cw_FXp (p := p) (by omega)).mp c⟩
    refine br_t (nI_le (a := 8) (b := 8) (by omega) (by omega)) ?_
    rw [nI_clamp (n := l) (by omega)]
    by_cases z : v = 0
    · subst z
      refine br_t rfl ⟨hl7, H _ (fun q => ?_)⟩
      rw [cw_andT, hs q]
      exact Iff.rfl
    · have z1 : v = 1 := by omega
      subst z1
      refine br_f (by decide) ⟨hl7, H _ (fun q => ?_)⟩
      rw [cw_andT, hs q]
      exact Iff.rfl
  · intro n i s hi hI K
    refine br_f (nI_ge (b := 8) hi (by omega)) ?_
    rw [e8, nI_add, nI_clamp (n := l * 8 + i) (by omega)]
    refine cw_if (cw_test (by omega)) (fun a => ⟨vp_in_nI (by omega) (by omega), nm_e (nm_r (nI_1 i) (K _ (fun q => ?_)))⟩) (fun a => nm_r (nI_1 i) (K s (fun q => ?_)))
    · rw [cw_orT, hI q]
      constructor
      · rintro ((b | ⟨p, b, c⟩) | b)
        · exact Or.inl b
        · exact Or.inr ⟨p, by omega, c⟩
        · exact Or.inr ⟨i, by omega, a, b⟩
      · rintro (b | ⟨p, b, c, d⟩)
        · exact Or.inl (Or.inl b)
        · by_cases e : p = i
          · subst e; exact Or.inr d
          · exact Or.inl (Or.inr ⟨p, by omega, c, d⟩)
    · rw [hI q]
      constructor
      · rintro (b | ⟨p, b, c⟩)
        · exact Or.inl b
        · exact Or.inr ⟨p, by omega, c⟩
      · rintro (b | ⟨p, b, c, d⟩)
        · exact Or.inl b
        · by_cases e : p = i
          · subst e; exact absurd c a
          · exact Or.inr ⟨p, by omega, c, d⟩
theorem cx_step {post : Int32 → Prop} {l v : Nat} {set : Int32} (hl : l < 7) (hv : v < 2)
    (H : ∀ r, (∀ q, bt r q = true ↔ (∃ p, p < 9 ∧ bt set p = true ∧ cw_FX (a_lineFirst l) (fun p => a_lineFollow (l * 8 + p)) p q) ∧ cw_KL (a_lineZeros l) (a_lineOnes l) q v) → post r) :
    wpX_step post (f_rows, f_columns, f_lines, f_cells, f_height, f_places, f_ready, f_found, f_number, f_allOnes, f_anyOnes, a_rowOf, a_columnOf, a_pins, a_low, a_first, a_last, a_empty, a_kind, a_follow, a_turned, a_lineFirst, a_lineLast, a_lineEmpty, a_lineZeros, a_lineOnes, a_lineFollow, a_back, a_digit, a_tried, a_rowSet, a_columnSet) (nI l) set (nI v) := by
  have hl7 : vp_in (nI l) 7 := vp_in_nI hl (by omega)
  unfold wpX_step
  dsimp only
  rw [nI_clamp (n := l) (by omega)]
  refine cw_if (cw_st set) (fun a => ?_) (fun a => ⟨hl7, nm_e ?_⟩)
  · refine cx_step22 hl hv (fun q => ?_) H
    rw [b_0]
    exact ⟨fun z => absurd z (by decide), fun z => absurd z.1 a⟩
  · refine cx_step22 hl hv (fun q => ?_) H
    have a' : bt set 8 = true := Classical.byContradiction a
    exact ⟨fun z => ⟨a', z⟩, fun z => z.2⟩
theorem cx_before48 {post : Int32 → Prop} {l : Nat} {goal r0 : Int32} (hl : l < 7) (h0 : ∀ p, p < 8 → bt r0 p = false)
    (H : ∀ r, (∀ p, p < 8 → (bt r p = true ↔ ∃ q, bt (a_lineFollow (l * 8 + p)) q = true ∧ bt goal q = true)) → post r) :
    ∃ n, wX_before_48 post (nI l) goal f_rows f_columns f_lines f_cells f_height f_places f_ready f_found f_number f_allOnes f_anyOnes a_rowOf a_columnOf a_pins a_low a_first a_last a_empty a_kind a_follow a_turned a_lineFirst a_lineLast a_lineEmpty a_lineZeros a_lineOnes a_lineFollow a_back a_digit a_tried a_rowSet a_columnSet n r0 0 := by
  have e8 : nI l * 8 = nI (l * 8) := pk_mul l 8
  refine loop_0 (fun n i s => wX_before_48 post (nI l) goal f_rows f_columns f_lines f_cells f_height f_places f_ready f_found f_number f_allOnes f_anyOnes a_rowOf a_columnOf a_pins a_low a_first a_last a_empty a_kind a_follow a_turned a_lineFirst a_lineLast a_lineEmpty a_lineZeros a_lineOnes a_lineFollow a_back a_digit a_tried a_rowSet a_columnSet n s (nI i)) (fun i s => ∀ p, p < 8 → (bt s p = true ↔ p < i ∧ ∃ q, bt (a_lineFollow (l * 8 + p)) q = true ∧ bt goal q = true)) 8 r0 ?_ ?_ ?_
  · intro p hp
    rw [h0 p hp]
    exact ⟨fun z => absurd z (by decide), fun z => absurd z.1 (Nat.not_lt_zero _)⟩
  · intro n s hI
    refine br_t (nI_le (a := 8) (b := 8) (by omega) (by omega)) (H s (fun p hp => ?_))
    rw [hI p hp]
    exact ⟨fun z => z.2, fun z => ⟨hp, z⟩⟩
  · intro n i s hi hI K
    refine br_f (nI_ge (b := 8) hi (by omega)) ?_
    rw [e8, nI_add, nI_clamp (n := l * 8 + i) (by omega)]
    refine ⟨vp_in_nI (by omega) (by omega), br_c (fun a => nm_r (nI_1 i) (K s (fun p hp => ?_))) (fun a => nm_e (nm_r (nI_1 i) (K _ (fun p hp => ?_))))⟩
    · rw [hI p hp]
      constructor
      · exact fun z => ⟨by omega, z.2⟩
      · intro ⟨b, q, c, d⟩
        by_cases e : p = i
        · subst e
          have z := cw_zero.mp a q
          rw [b_and, c, d] at z
          exact absurd z (by decide)
        · exact ⟨by omega, q, c, d⟩
    · rw [cw_orT, cw_bitT (by omega), hI p hp]
      constructor
      · rintro (z | z)
        · exact ⟨by omega, z.2⟩
        · subst z
          obtain ⟨q, hq⟩ := cw_nz.mp a
          exact ⟨by omega, q, cw_andT.mp hq⟩
      · intro ⟨b, c⟩
        by_cases e : p = i
        · exact Or.inr e
        · exact Or.inl ⟨by omega, c⟩
theorem cx_before {post : Int32 → Prop} {l v : Nat} {set : Int32} (hl : l < 7) (hv : v < 2)
    (H : ∀ r, (∀ p, p < 8 → (bt r p = true ↔ ∃ q, bt (a_lineFollow (l * 8 + p)) q = true ∧ cw_KL (a_lineZeros l) (a_lineOnes l) q v ∧ bt set q = true)) → post r) :
    wpX_before post (f_rows, f_columns, f_lines, f_cells, f_height, f_places, f_ready, f_found, f_number, f_allOnes, f_anyOnes, a_rowOf, a_columnOf, a_pins, a_low, a_first, a_last, a_empty, a_kind, a_follow, a_turned, a_lineFirst, a_lineLast, a_lineEmpty, a_lineZeros, a_lineOnes, a_lineFollow, a_back, a_digit, a_tried, a_rowSet, a_columnSet) (nI l) set (nI v) := by
  have hl7 : vp_in (nI l) 7 := vp_in_nI hl (by omega)
  have h23 : ∀ g : Int32, (∀ q, bt g q = true ↔ bt set q = true ∧ cw_KL (a_lineZeros l) (a_lineOnes l) q v) → wX_before_23 post (nI l) g f_rows f_columns f_lines f_cells f_height f_places f_ready f_found f_number f_allOnes f_anyOnes a_rowOf a_columnOf a_pins a_low a_first a_last a_empty a_kind a_follow a_turned a_lineFirst a_lineLast a_lineEmpty a_lineZeros a_lineOnes a_lineFollow a_back a_digit a_tried a_rowSet a_columnSet := by
    intro g hg
    have H' : ∀ r, (∀ p, p < 8 → (bt r p = true ↔ ∃ q, bt (a_lineFollow (l * 8 + p)) q = true ∧ bt g q = true)) → post r := by
      intro r hr
      refine H r (fun p hp => ?_)
      rw [hr p hp]
      exact ⟨fun ⟨q, a, b⟩ => ⟨q, a, ((hg q).mp b).2, ((hg q).mp b).1⟩, fun ⟨q, a, b, c⟩ => ⟨q, a, (hg q).mpr ⟨c, b⟩⟩⟩
    unfold wX_before_23
    refine ⟨hl7, br_c (fun _ => cx_before48 hl (fun p _ => b_0 p) H') (fun _ => cx_before48 hl (fun p hp => ?_) H')⟩
    rw [cw_256, decide_eq_false (by omega)]
  unfold wpX_before
  dsimp only
  rw [nI_clamp (n := l) (by omega)]
  by_cases z : v = 0
  · subst z
    exact br_t rfl ⟨hl7, h23 _ (fun q => cw_andT)⟩
  · have z1 : v = 1 := by omega
    subst z1
    exact br_f (by decide) ⟨hl7, h23 _ (fun q => cw_andT)⟩
theorem cx_lineLength {post : Int32 → Prop} {R C l : Nat} (hrc : cw_RC R C) (hl : l < R + C) (h : post (nI (cw_ln R C l))) : wpX_lineLength post (nI R, nI C, f_lines, f_cells, f_height, f_places, f_ready, f_found, f_number, f_allOnes, f_anyOnes, a_rowOf, a_columnOf, a_pins, a_low, a_first, a_last, a_empty, a_kind, a_follow, a_turned, a_lineFirst, a_lineLast, a_lineEmpty, a_lineZeros, a_lineOnes, a_lineFollow, a_back, a_digit, a_tried, a_rowSet, a_columnSet) (nI l) := by
  obtain ⟨h1, h2, h3, h4⟩ := hrc
  by_cases z : l < R
  · rw [cw_lnr z] at h
    exact br_f (nI_ge z (by omega)) h
  · rw [cw_lnc z] at h
    exact br_t (nI_le (by omega) (by omega)) h
theorem cx_cellOf {post : Int32 → Prop} {R C l t : Nat} (hrc : cw_RC R C) (hl : l < R + C) (h : post (nI (cw_cl R C l t))) : wpX_cellOf post (nI R, nI C, f_lines, f_cells, f_height, f_places, f_ready, f_found, f_number, f_allOnes, f_anyOnes, a_rowOf, a_columnOf, a_pins, a_low, a_first, a_last, a_empty, a_kind, a_follow, a_turned, a_lineFirst, a_lineLast, a_lineEmpty, a_lineZeros, a_lineOnes, a_lineFollow, a_back, a_digit, a_tried, a_rowSet, a_columnSet) (nI l) (nI t) := by
  obtain ⟨h1, h2, h3, h4⟩ := hrc
  unfold wpX_cellOf
  dsimp only
  by_cases z : l < R
  · rw [cw_clr z] at h
    refine br_f (nI_ge z (by omega)) ?_
    rw [pk_mul, nI_add]
    exact h
  · rw [cw_clc z] at h
    refine br_t (nI_le (by omega) (by omega)) ?_
    rw [pk_mul, nI_add, pk_sub (by omega), show t * C + l - R = t * C + (l - R) from by omega]
    exact h
end
/-- back of one line, from letter k on: at the end the last places; before it, all places from which an allowed letter leads into the next set -/
def cw_BL (n l : Nat) (cl : Nat → Nat) (pins : Nat → Int32) (la ze on : Int32) (fo bk : Nat → Int32) (k : Nat) : Prop :=
  (∀ q, q < 8 → (bt (bk (l * 5 + n)) q = true ↔ bt la q = true)) ∧
  ∀ t, k ≤ t → t < n → ∀ p q v, p < 8 → v < 2 → (pins (cl t) = 2 ∨ pins (cl t) = nI v) → bt (fo p) q = true → cw_KL ze on q v → bt (bk (l * 5 + t + 1)) q = true → bt (bk (l * 5 + t)) p = true
theorem cw_BLc {n l : Nat} {cl : Nat → Nat} {pins : Nat → Int32} {la ze on : Int32} {fo bk bk' : Nat → Int32} {k : Nat} (hn : n ≤ 4) (h : cw_BL n l cl pins la ze on fo bk k) (e : ∀ j, l * 5 ≤ j → j < l * 5 + 5 → bk' j = bk j) : cw_BL n l cl pins la ze on fo bk' k := by
  refine ⟨fun q hq => ?_, fun t ht ht2 p q v a b c d f g => ?_⟩
  · rw [e _ (by omega) (by omega)]; exact h.1 q hq
  · rw [e _ (by omega) (by omega)] at g ⊢
    exact h.2 t ht ht2 p q v a b c d f g
def cw_BK (R C : Nat) (pins la ze on fo bk : Nat → Int32) : Prop := ∀ l, l < R + C → cw_BL (cw_ln R C l) l (cw_cl R C l) pins (la l) (ze l) (on l) (fun p => fo (l * 8 + p)) bk 0
section
variable {f_rows f_columns f_lines f_cells f_height f_places f_ready f_found f_number f_allOnes f_anyOnes : Int32} {a_rowOf a_columnOf a_pins a_low a_first a_last a_empty a_kind a_follow a_turned a_lineFirst a_lineLast a_lineEmpty a_lineZeros a_lineOnes a_lineFollow a_back a_digit a_tried a_rowSet a_columnSet : Nat → Int32}
theorem cx_prepareLine {post : SX → Prop} {R C l : Nat} (hrc : cw_RC R C) (hl : l < R + C)
    (H : ∀ bk : Nat → Int32, cw_BL (cw_ln R C l) l (cw_cl R C l) a_pins (a_lineLast l) (a_lineZeros l) (a_lineOnes l) (fun p => a_lineFollow (l * 8 + p)) bk 0 → (∀ j, ¬ (l * 5 ≤ j ∧ j < l * 5 + 5) → bk j = a_back j) → post (nI R, nI C, f_lines, f_cells, f_height, f_places, f_ready, f_found, f_number, f_allOnes, f_anyOnes, a_rowOf, a_columnOf, a_pins, a_low, a_first, a_last, a_empty, a_kind, a_follow, a_turned, a_lineFirst, a_lineLast, a_lineEmpty, a_lineZeros, a_lineOnes, a_lineFollow, bk, a_digit, a_tried, a_rowSet, a_columnSet)) :
    wpX_prepareLine post (nI R, nI C, f_lines, f_cells, f_height, f_places, f_ready, f_found, f_number, f_allOnes, f_anyOnes, a_rowOf, a_columnOf, a_pins, a_low, a_first, a_last, a_empty, a_kind, a_follow, a_turned, a_lineFirst, a_lineLast, a_lineEmpty, a_lineZeros, a_lineOnes, a_lineFollow, a_back, a_digit, a_tried, a_rowSet, a_columnSet) (nI l) := by
  have hln := cw_ln4 hrc l
  have hN := cw_N12 hrc
  have hl6 : l < 7 := by obtain ⟨h1, h2, h3, h4⟩ := hrc; omega
  have hl7 : vp_in (nI l) 7 := vp_in_nI hl6 (by omega)
  have e5 : nI l * 5 = nI (l * 5) := pk_mul l 5
  have h28 : ∀ set : Int32, (∀ q, q < 8 → (bt set q = true ↔ bt (a_lineLast l) q = true)) → wX_prepareLine_28 post (nI l) (nI (cw_ln R C l)) set (nI R) (nI C) f_lines f_cells f_height f_places f_ready f_found f_number f_allOnes f_anyOnes a_rowOf a_columnOf a_pins a_low a_first a_last a_empty a_kind a_follow a_turned a_lineFirst a_lineLast a_lineEmpty a_lineZeros a_lineOnes a_lineFollow a_back a_digit a_tried a_rowSet a_columnSet := by
    intro set hset
    unfold wX_prepareLine_28
    rw [e5, nI_add, nI_clamp (by omega)]
    refine ⟨vp_in_nI (by omega) (by omega), nm_e (nm_e ⟨cw_ln R C l + 1, ?_⟩)⟩
    refine pk_loopD (σ := Int32 × (Nat → Int32)) (fun n k s => wX_prepareLine_44 post (nI l) (nI R) (nI C) f_lines f_cells f_height f_places f_ready f_found f_number f_allOnes f_anyOnes n s.1 (nI k - 1) a_rowOf a_columnOf a_pins a_low a_first a_last a_empty a_kind a_follow a_turned a_lineFirst a_lineLast a_lineEmpty a_lineZeros a_lineOnes a_lineFollow s.2 a_digit a_tried a_rowSet a_columnSet) (fun k s => k ≤ cw_ln R C l ∧ s.2 (l * 5 + k) = s.1 ∧ cw_BL (cw_ln R C l) l (cw_cl R C l) a_pins (a_lineLast l) (a_lineZeros l) (a_lineOnes l) (fun p => a_lineFollow (l * 8 + p)) s.2 k ∧ (∀ j, ¬ (l * 5 ≤ j ∧ j < l * 5 + 5) → s.2 j = a_back j)) ?_ ?_ (cw_ln R C l) (set, upd a_back (l * 5 + cw_ln R C l) set) ⟨Nat.le_refl _, pk_us, ⟨fun q hq => ?_, fun t a b => absurd a (by omega)⟩, fun j hj => pk_un (by omega)⟩
    · intro n ⟨s, bk⟩ ⟨_, _, h2, h3⟩
      exact br_t (by decide) (H bk h2 h3)
    · intro n t ⟨s, bk⟩ ⟨ht, h1, h2, h3⟩ K
      dsimp only at h1 h2 h3 ⊢
      subst h1
      have e1 : nI (t + 1) - 1 = nI t := cw_s1 (by omega)
      have hc := cw_clN hl (t := t) (by omega)
      have hc12 : vp_in (nI (cw_cl R C l t)) 12 := vp_in_nI (by omega) (by omega)
      have J107 : ∀ w : Int32, (∀ p q v, p < 8 → v < 2 → (a_pins (cw_cl R C l t) = 2 ∨ a_pins (cw_cl R C l t) = nI v) → bt (a_lineFollow (l * 8 + p)) q = true → cw_KL (a_lineZeros l) (a_lineOnes l) q v → bt (bk (l * 5 + (t + 1))) q = true → bt w p = true) → wX_prepareLine_107 post (wX_prepareLine_44 post (nI l) (nI R) (nI C) f_lines f_cells f_height f_places f_ready f_found f_number f_allOnes f_anyOnes n) (nI l) (nI t) w (nI R) (nI C) f_lines f_cells f_height f_places f_ready f_found f_number f_allOnes f_anyOnes a_rowOf a_columnOf a_pins a_low a_first a_last a_empty a_kind a_follow a_turned a_lineFirst a_lineLast a_lineEmpty a_lineZeros a_lineOnes a_lineFollow bk a_digit a_tried a_rowSet a_columnSet := by
        intro w hw
        unfold wX_prepareLine_107
        rw [e5, nI_add, nI_clamp (by omega)]
        refine ⟨vp_in_nI (by omega) (by omega), nm_e (nm_r (e' := nI t - 1) ?_ (K (w, upd bk (l * 5 + t) w) ⟨by omega, pk_us, ⟨fun q hq => ?_, fun t' a b p q v c d f g i j => ?_⟩, fun j hj => ?_⟩))⟩
        · rw [Int32.sub_eq_add_neg]
        · dsimp only
          rw [pk_un (by omega)]; exact h2.1 q hq
        · dsimp only at j ⊢
          rw [pk_un (by omega)] at j
          by_cases e : t' = t
          · subst e
            rw [pk_us]
            exact hw p q v c d f g i j
          · rw [pk_un (by omega)]
            exact h2.2 t' (by omega) b p q v c d f g i j
        · dsimp only
          rw [pk_un (by omega)]; exact h3 j hj
      have J81 : ∀ w : Int32, (∀ p q, p < 8 → (a_pins (cw_cl R C l t) = 2 ∨ a_pins (cw_cl R C l t) = nI 0) → bt (a_lineFollow (l * 8 + p)) q = true → cw_KL (a_lineZeros l) (a_lineOnes l) q 0 → bt (bk (l * 5 + (t + 1))) q = true → bt w p = true) → wX_prepareLine_81 post (wX_prepareLine_44 post (nI l) (nI R) (nI C) f_lines f_cells f_height f_places f_ready f_found f_number f_allOnes f_anyOnes n) (nI l) (bk (l * 5 + (t + 1))) (nI t) (nI (cw_cl R C l t)) w (nI R) (nI C) f_lines f_cells f_height f_places f_ready f_found f_number f_allOnes f_anyOnes a_rowOf a_columnOf a_pins a_low a_first a_last a_empty a_kind a_follow a_turned a_lineFirst a_lineLast a_lineEmpty a_lineZeros a_lineOnes a_lineFollow bk a_digit a_tried a_rowSet a_columnSet := by
        intro w hw
        unfold wX_prepareLine_81
        rw [nI_clamp (n := cw_cl R C l t) (by omega)]
        refine ⟨hc12, br_c (fun a => J107 w (fun p q v c d f g i j => ?_)) (fun a => cx_before (v := 1) hl6 (by omega) (fun r hr => nm_e (J107 _ (fun p q v c d f g i j => ?_))))⟩
        · by_cases z : v = 0
          · subst z; exact hw p q c f g i j
          · have z1 : v = 1 := by omega
            subst z1
            rw [a] at f
            rcases f with f | f
            · exact absurd f (by decide)
            · exact absurd f (by decide)
        · rw [cw_orT]
          by_cases z : v = 0
          · subst z; exact Or.inl (hw p q c f g i j)
          · have z1 : v = 1 := by omega
            subst z1
            exact Or.inr ((hr p c).mpr ⟨q, g, i, j⟩)
      rw [e1]
      refine br_f (nI_pos (by omega)) (cx_cellOf hrc hl ?_)
      rw [nI_clamp (n := cw_cl R C l t) (by omega)]
      refine ⟨hc12, br_c (fun a => J81 0 (fun p q c f => ?_)) (fun a => cx_before (v := 0) hl6 (by omega) (fun r hr => J81 r (fun p q c f g i j => (hr p c).mpr ⟨q, g, i, j⟩)))⟩
      rw [a] at f
      rcases f with f | f
      · exact absurd f (by decide)
      · exact absurd f (by decide)
    · dsimp only
      rw [pk_us]; exact hset q hq
  unfold wpX_prepareLine
  dsimp only
  refine cx_lineLength hrc hl ⟨hl7, ?_⟩
  rw [nI_clamp (n := l) (by omega)]
  refine nm_e ⟨hl7, br_c (fun _ => h28 _ (fun q _ => Iff.rfl)) (fun _ => nm_e (h28 _ (fun q hq => ?_)))⟩
  rw [cw_orT, cw_256]
  exact ⟨fun z => z.elim id (fun y => absurd (of_decide_eq_true y) (by omega)), Or.inl⟩
theorem cx_prepare {post : SX → Prop} {R C : Nat} (hrc : cw_RC R C) (hr : f_ready = 0 ∨ cw_BK R C a_pins a_lineLast a_lineZeros a_lineOnes a_lineFollow a_back)
    (H : ∀ (rd : Int32) (bk : Nat → Int32), cw_BK R C a_pins a_lineLast a_lineZeros a_lineOnes a_lineFollow bk → post (nI R, nI C, nI (R + C), f_cells, f_height, f_places, rd, f_found, f_number, f_allOnes, f_anyOnes, a_rowOf, a_columnOf, a_pins, a_low, a_first, a_last, a_empty, a_kind, a_follow, a_turned, a_lineFirst, a_lineLast, a_lineEmpty, a_lineZeros, a_lineOnes, a_lineFollow, bk, a_digit, a_tried, a_rowSet, a_columnSet)) :
    wpX_prepare post (nI R, nI C, nI (R + C), f_cells, f_height, f_places, f_ready, f_found, f_number, f_allOnes, f_anyOnes, a_rowOf, a_columnOf, a_pins, a_low, a_first, a_last, a_empty, a_kind, a_follow, a_turned, a_lineFirst, a_lineLast, a_lineEmpty, a_lineZeros, a_lineOnes, a_lineFollow, a_back, a_digit, a_tried, a_rowSet, a_columnSet) := by
  have hR := hrc
  obtain ⟨h1, h2, h3, h4⟩ := hR
  unfold wpX_prepare
  dsimp only
  refine br_c (fun _ => ?_) (fun a => H _ _ (hr.elim (fun z => absurd z a) id))
  refine loop_0 (fun n i (bk : Nat → Int32) => wX_prepare_10 post n (nI i) (nI R) (nI C) (nI (R + C)) f_cells f_height f_places f_ready f_found f_number f_allOnes f_anyOnes a_rowOf a_columnOf a_pins a_low a_first a_last a_empty a_kind a_follow a_turned a_lineFirst a_lineLast a_lineEmpty a_lineZeros a_lineOnes a_lineFollow bk a_digit a_tried a_rowSet a_columnSet) (fun i bk => ∀ l, l < i → cw_BL (cw_ln R C l) l (cw_cl R C l) a_pins (a_lineLast l) (a_lineZeros l) (a_lineOnes l) (fun p => a_lineFollow (l * 8 + p)) bk 0) (R + C) a_back (fun l h => absurd h (Nat.not_lt_zero _)) ?_ ?_
  · intro n bk hI
    exact br_t (nI_le (Nat.le_refl _) (by omega)) (H _ bk hI)
  · intro n i bk hi hI K
    refine br_f (nI_ge hi (by omega)) (cx_prepareLine hrc hi (fun bk' g1 g2 => ?_))
    refine nm_r (nI_1 i) (K bk' (fun l hl => ?_))
    by_cases e : l = i
    · subst e; exact g1
    · exact cw_BLc (cw_ln4 hrc l).2 (hI l (by omega)) (fun j a b => g2 j (by omega))
end
end
section
/-! ===== the search, without the program ===== -/
/-- the places of a line after t letters of g, those kept that can still end well -/
def cw_SR (fi : Int32) (fo : Nat → Int32) (ze on : Int32) (bk : Nat → Int32) (g : Nat → Nat) : Nat → Nat → Prop
  | 0, q => q = 8
  | t + 1, q => ((∃ p, p < 9 ∧ cw_SR fi fo ze on bk g t p ∧ cw_FX fi fo p q) ∧ cw_KL ze on q (g t)) ∧ bt (bk (t + 1)) q = true
theorem cw_SRm {fi : Int32} {fo : Nat → Int32} {ze on : Int32} {bk : Nat → Int32} {g : Nat → Nat} : ∀ {k t : Nat}, (∃ q, cw_SR fi fo ze on bk g (t + k) q) → ∃ q, cw_SR fi fo ze on bk g t q
  | 0, _, h => h
  | k + 1, t, h => by
    obtain ⟨q, ⟨⟨p, _, hp, _⟩, _⟩, _⟩ := h
    exact cw_SRm (k := k) ⟨p, hp⟩
theorem cw_SRc {fi : Int32} {fo : Nat → Int32} {ze on : Int32} {bk : Nat → Int32} {g g' : Nat → Nat} : ∀ (t q : Nat), (∀ i, i < t → g i = g' i) → (cw_SR fi fo ze on bk g t q ↔ cw_SR fi fo ze on bk g' t q)
  | 0, _, _ => Iff.rfl
  | t + 1, q, h => by
    have ih := fun p => cw_SRc (fi := fi) (fo := fo) (ze := ze) (on := on) (bk := bk) t p (fun i hi => h i (by omega))
    have ht := h t (by omega)
    constructor
    · intro ⟨⟨⟨p, a, b, c⟩, d⟩, e⟩
      exact ⟨⟨⟨p, a, (ih p).mp b, c⟩, by rw [← ht]; exact d⟩, e⟩
    · intro ⟨⟨⟨p, a, b, c⟩, d⟩, e⟩
      exact ⟨⟨⟨p, a, (ih p).mpr b, c⟩, by rw [ht]; exact d⟩, e⟩
def cw_lf (g : Nat → Nat) : Nat → Nat → List Nat
  | _, 0 => []
  | t, k + 1 => g t :: cw_lf g (t + 1) k
theorem cw_lfa (g : Nat → Nat) : ∀ k t, cw_lf g t (k + 1) = cw_lf g t k ++ [g (t + k)]
  | 0, _ => rfl
  | k + 1, t => by
    show g t :: cw_lf g (t + 1) (k + 1) = g t :: (cw_lf g (t + 1) k ++ [g (t + (k + 1))])
    rw [cw_lfa g k (t + 1), show t + 1 + k = t + (k + 1) from by omega]
theorem cw_lsf (g : Nat → Nat) : ∀ n, cw_ls g n = cw_lf g 0 n
  | 0 => rfl
  | n + 1 => by
    rw [cw_lfa g n 0, ← cw_lsf g n, Nat.zero_add]
    rfl
theorem cw_KLlt {ze on : Int32} (hz : ∀ i, 8 ≤ i → bt ze i = false ∧ bt on i = false) {q v : Nat} (h : cw_KL ze on q v) : q < 8 := by
  apply Classical.byContradiction
  intro hn
  have z := hz q (by omega)
  unfold cw_KL at h
  by_cases e : v = 0
  · rw [if_pos e, z.1] at h
    exact absurd h (by decide)
  · rw [if_neg e, z.2] at h
    exact absurd h (by decide)
theorem cw_SRac {n l : Nat} {cl : Nat → Nat} {pins : Nat → Int32} {fi la ze on : Int32} {fo bk : Nat → Int32} {g : Nat → Nat} (hz : ∀ i, 8 ≤ i → bt ze i = false ∧ bt on i = false)
    (hB : cw_BL n l cl pins la ze on fo bk 0) (hn : 1 ≤ n) (hg : ∀ t, g t < 2) (hp : ∀ t, t < n → pins (cl t) = 2 ∨ pins (cl t) = nI (g t)) :
    (∃ q, cw_SR fi fo ze on (fun t => bk (l * 5 + t)) g n q) ↔ cw_ac (cw_KL ze on) (cw_FX fi fo) (fun p => bt la p = true) (cw_ls g n) 8 := by
  have A : ∀ k t p, t + k = n → p < 8 → cw_ac (cw_KL ze on) (cw_FX fi fo) (fun p => bt la p = true) (cw_lf g t k) p → bt (bk (l * 5 + t)) p = true := by
    intro k
    induction k with
    | zero =>
      intro t p ht h8 h
      have e : t = n := by omega
      subst e
      exact (hB.1 p h8).mpr h
    | succ k ih =>
      intro t p ht h8 ⟨q, a, b, c⟩
      have hq := cw_KLlt hz b
      exact hB.2 t (Nat.zero_le _) (by omega) p q (g t) h8 (hg t) (hp t (by omega)) ((cw_FXp (fi := fi) (p := p) h8).mp a) b (ih (t + 1) q (by omega) hq c)
  have B : ∀ k t, t + k = n → ((∃ q, cw_SR fi fo ze on (fun t => bk (l * 5 + t)) g n q) ↔ ∃ p, p < 9 ∧ cw_SR fi fo ze on (fun t => bk (l * 5 + t)) g t p ∧ cw_ac (cw_KL ze on) (cw_FX fi fo) (fun p => bt la p = true) (cw_lf g t k) p) := by
    intro k
    induction k with
    | zero =>
      intro t ht
      have e : t = n := by omega
      subst e
      constructor
      · intro ⟨q, hq⟩
        obtain ⟨m, rfl⟩ : ∃ m, t = m + 1 := ⟨t - 1, by omega⟩
        have h8 := cw_KLlt hz hq.1.2
        exact ⟨q, by omega, hq, (hB.1 q h8).mp hq.2⟩
      · intro ⟨p, _, h, _⟩
        exact ⟨p, h⟩
    | succ k ih =>
      intro t ht
      rw [ih (t + 1) (by omega)]
      constructor
      · intro ⟨q, _, ⟨⟨⟨p, a, b, c⟩, d⟩, _⟩, f⟩
        exact ⟨p, a, b, q, c, d, f⟩
      · intro ⟨p, a, b, q, c, d, f⟩
        have h8 := cw_KLlt hz d
        exact ⟨q, by omega, ⟨⟨⟨p, a, b, c⟩, d⟩, A k (t + 1) q (by omega) h8 f⟩, f⟩
  rw [B n 0 (by omega), cw_lsf]
  constructor
  · intro ⟨p, _, e, h⟩
    have e' : p = 8 := e
    subst e'
    exact h
  · intro h
    exact ⟨8, by omega, rfl, h⟩
/-- a line's machine has the words of the reference's set -/
def cw_LN (fi la ze on : Int32) (fo : Nat → Int32) (m : Int32) : Prop := (∀ i, 8 ≤ i → bt ze i = false ∧ bt on i = false) ∧ ∀ len bits, 1 ≤ len → len ≤ 4 → bits < 2 ^ len → (bt m (2 ^ len - 1 + bits) = true ↔ cw_ac (cw_KL ze on) (cw_FX fi fo) (fun p => bt la p = true) (cw_wd len bits) 8)
def cw_LS (R C : Nat) (fi la ze on fo li : Nat → Int32) : Prop := ∀ l, l < R + C → cw_LN (fi l) (la l) (ze l) (on l) (fun p => fo (l * 8 + p)) (li l)
def cw_PN (R C : Nat) (xp yp : Nat → Int32) : Prop := ∀ r c, r < R → c < C → xp (r * C + c) = yp (r * 4 + c)
def cw_SL (fi ze on fo bk : Nat → Int32) (l : Nat) (g : Nat → Nat) (t q : Nat) : Prop := cw_SR (fi l) (fun p => fo (l * 8 + p)) (ze l) (on l) (fun t => bk (l * 5 + t)) g t q
def cw_ok (N : Nat) (xp : Nat → Int32) (n d : Nat) : Prop := xp d = 2 ∨ xp d = nI (cw_dig N n d)
def cw_PC (R C : Nat) (xp fi ze on fo bk : Nat → Int32) (n d : Nat) : Prop :=
  cw_ok (R * C) xp n d ∧ (∃ q, cw_SL fi ze on fo bk (d / C) (cw_g R C n (d / C)) (d % C + 1) q) ∧ (∃ q, cw_SL fi ze on fo bk (R + d % C) (cw_g R C n (R + d % C)) (d / C + 1) q)
theorem cw_dc {r c C : Nat} (hc : c < C) : (r * C + c) / C = r ∧ (r * C + c) % C = c := by
  rw [Nat.mul_comm r C, Nat.mul_add_div (by omega), Nat.div_eq_of_lt hc, Nat.mul_add_mod, Nat.mod_eq_of_lt hc]
  exact ⟨rfl, rfl⟩
theorem cw_dd {d R C : Nat} (hC : 1 ≤ C) (h : d < R * C) : d / C < R ∧ d % C < C ∧ d / C * C + d % C = d :=
  ⟨Nat.div_lt_of_lt_mul (by rw [Nat.mul_comm]; exact h), Nat.mod_lt _ hC, Nat.div_add_mod' d C⟩
theorem cw_line {R C n l : Nat} {xp fi la ze on fo bk li : Nat → Int32} (hrc : cw_RC R C) (hL : cw_LS R C fi la ze on fo li) (hB : cw_BK R C xp la ze on fo bk) (hl : l < R + C) (hp : ∀ t, t < cw_ln R C l → cw_ok (R * C) xp n (cw_cl R C l t)) :
    (∃ q, cw_SL fi ze on fo bk l (cw_g R C n l) (cw_ln R C l) q) ↔ cw_LY R C li n l := by
  have hln := cw_ln4 hrc l
  have h := cw_SRac (fi := fi l) (hL l hl).1 (hB l hl) hln.1 (cw_gl R C n l) hp
  unfold cw_SL cw_LY
  rw [h, (hL l hl).2 (cw_ln R C l) (cw_wv (cw_g R C n l) (cw_ln R C l)) hln.1 hln.2 (cw_wvlt (cw_gl R C n l) _), cw_wvls (cw_gl R C n l)]
theorem cw_GDfits {R C n : Nat} {xp fi la ze on fo bk li yp : Nat → Int32} (hrc : cw_RC R C) (hL : cw_LS R C fi la ze on fo li) (hB : cw_BK R C xp la ze on fo bk) (hP : cw_PN R C xp yp) :
    (∀ d, d < R * C → cw_PC R C xp fi ze on fo bk n d) ↔ cw_FY R C yp li n := by
  have hR := hrc
  obtain ⟨h1, h2, h3, h4⟩ := hR
  have pins : cw_PY R C yp n ↔ ∀ d, d < R * C → cw_ok (R * C) xp n d := by
    constructor
    · intro h d hd
      obtain ⟨a, b, c⟩ := cw_dd h3 hd
      have z := h _ a _ b
      unfold cw_okc at z
      rw [← hP _ _ a b, c] at z
      exact z
    · intro h r hr c hc
      have z := h _ (cw_rc hr hc)
      unfold cw_ok at z
      rw [hP r c hr hc] at z
      exact z
  constructor
  · intro h
    have hp : ∀ d, d < R * C → cw_ok (R * C) xp n d := fun d hd => (h d hd).1
    refine ⟨pins.mpr hp, fun l hl => ?_⟩
    rw [← cw_line hrc hL hB hl (fun t ht => hp _ (cw_clN hl ht))]
    by_cases z : l < R
    · have y := (h (l * C + (C - 1)) (cw_rc z (by omega))).2.1
      rw [(cw_dc (by omega)).1, (cw_dc (by omega)).2, show C - 1 + 1 = C from by omega] at y
      rw [cw_lnr z]
      exact y
    · have y := (h ((R - 1) * C + (l - R)) (cw_rc (by omega) (by omega))).2.2
      rw [(cw_dc (by omega)).1, (cw_dc (by omega)).2, show R - 1 + 1 = R from by omega, show R + (l - R) = l from by omega] at y
      rw [cw_lnc z]
      exact y
  · intro ⟨hy, hl⟩ d hd
    have hp := pins.mp hy
    obtain ⟨a, b, c⟩ := cw_dd h3 hd
    refine ⟨hp d hd, ?_, ?_⟩
    · have z := (cw_line hrc hL hB (l := d / C) (by omega) (fun t ht => hp _ (cw_clN (by omega) ht))).mpr (hl _ (by omega))
      rw [cw_lnr a] at z
      refine cw_SRm (k := C - (d % C + 1)) ?_
      rw [show d % C + 1 + (C - (d % C + 1)) = C from by omega]
      exact z
    · have z := (cw_line hrc hL hB (l := R + d % C) (by omega) (fun t ht => hp _ (cw_clN (by omega) ht))).mpr (hl _ (by omega))
      rw [cw_lnc (by omega)] at z
      refine cw_SRm (k := R - (d / C + 1)) ?_
      rw [show d / C + 1 + (R - (d / C + 1)) = R from by omega]
      exact z
/-- what stands in the first d cells is that of number n -/
def cw_SI (R C : Nat) (fi ze on fo bk : Nat → Int32) (d n : Nat) (dg rs cs : Nat → Int32) : Prop := ∀ e, e < d → dg e = nI (cw_dig (R * C) n e) ∧ (∀ q, bt (rs e) q = true ↔ cw_SL fi ze on fo bk (e / C) (cw_g R C n (e / C)) (e % C + 1) q) ∧ (∀ q, bt (cs e) q = true ↔ cw_SL fi ze on fo bk (R + e % C) (cw_g R C n (R + e % C)) (e / C + 1) q)
theorem cw_grow {R C n n' d : Nat} (hC : 1 ≤ C) (hd : d < R * C) (h : ∀ e, e ≤ d → cw_dig (R * C) n e = cw_dig (R * C) n' e) :
    (∀ i, i < d % C + 1 → cw_g R C n (d / C) i = cw_g R C n' (d / C) i) ∧ (∀ i, i < d / C + 1 → cw_g R C n (R + d % C) i = cw_g R C n' (R + d % C) i) := by
  obtain ⟨a, b, c⟩ := cw_dd hC hd
  constructor
  · intro i hi
    unfold cw_g
    rw [cw_clr a]
    exact h _ (by omega)
  · intro i hi
    unfold cw_g
    rw [cw_clc (by omega)]
    have m := Nat.mul_le_mul_right C (show i ≤ d / C from by omega)
    exact h _ (by omega)
theorem cw_PCc {R C n n' d : Nat} {xp fi ze on fo bk : Nat → Int32} (hC : 1 ≤ C) (hd : d < R * C) (h : ∀ e, e ≤ d → cw_dig (R * C) n e = cw_dig (R * C) n' e) : cw_PC R C xp fi ze on fo bk n d ↔ cw_PC R C xp fi ze on fo bk n' d := by
  obtain ⟨g1, g2⟩ := cw_grow hC hd h
  unfold cw_PC cw_ok
  rw [h d (Nat.le_refl _)]
  constructor
  · intro ⟨a, ⟨q, b⟩, ⟨r, c⟩⟩
    exact ⟨a, ⟨q, (cw_SRc _ q g1).mp b⟩, ⟨r, (cw_SRc _ r g2).mp c⟩⟩
  · intro ⟨a, ⟨q, b⟩, ⟨r, c⟩⟩
    exact ⟨a, ⟨q, (cw_SRc _ q g1).mpr b⟩, ⟨r, (cw_SRc _ r g2).mpr c⟩⟩
theorem cw_SIc {R C n n' d : Nat} {fi ze on fo bk dg rs cs : Nat → Int32} (hC : 1 ≤ C) (hd : d ≤ R * C) (h : ∀ e, e < d → cw_dig (R * C) n e = cw_dig (R * C) n' e) (hI : cw_SI R C fi ze on fo bk d n dg rs cs) : cw_SI R C fi ze on fo bk d n' dg rs cs := by
  intro e he
  obtain ⟨a, b, c⟩ := hI e he
  obtain ⟨g1, g2⟩ := cw_grow hC (show e < R * C from by omega) (fun i hi => h i (by omega))
  exact ⟨by rw [← h e he]; exact a, fun q => (b q).trans (cw_SRc _ q g1), fun q => (c q).trans (cw_SRc _ q g2)⟩
end
section
/-! ===== the component: one cell, a full grid ===== -/
theorem cw_adv {fi ze on fo bk : Nat → Int32} {l t v : Nat} {g : Nat → Nat} {x r : Int32} (hg : g t = v) (hx : ∀ p, p < 9 → (bt x p = true ↔ cw_SL fi ze on fo bk l g t p))
    (hr : ∀ q, bt r q = true ↔ (∃ p, p < 9 ∧ bt x p = true ∧ cw_FX (fi l) (fun p => fo (l * 8 + p)) p q) ∧ cw_KL (ze l) (on l) q v) (q : Nat) :
    bt (r &&& bk (l * 5 + (t + 1))) q = true ↔ cw_SL fi ze on fo bk l g (t + 1) q := by
  rw [cw_andT, hr q, ← hg]
  constructor
  · intro ⟨⟨⟨p, a, b, c⟩, d⟩, e⟩
    exact ⟨⟨⟨p, a, (hx p a).mp b, c⟩, d⟩, e⟩
  · intro ⟨⟨⟨p, a, b, c⟩, d⟩, e⟩
    exact ⟨⟨⟨p, a, (hx p a).mpr b, c⟩, d⟩, e⟩
section
variable {f_rows f_columns f_lines f_cells f_height f_places f_ready f_found f_number f_allOnes f_anyOnes : Int32} {a_rowOf a_columnOf a_pins a_low a_first a_last a_empty a_kind a_follow a_turned a_lineFirst a_lineLast a_lineEmpty a_lineZeros a_lineOnes a_lineFollow a_back a_digit a_tried a_rowSet a_columnSet : Nat → Int32}
theorem cx_pl114 {post : Int32 → SX → Prop} {R C d r c v n : Nat} {x6 x7 : Int32} (hrc : cw_RC R C) (hr : r < R) (hc : c < C) (hd : r * C + c = d) (hv : v < 2) (hdig : cw_dig (R * C) n d = v)
    (h7 : ∀ p, p < 9 → (bt x7 p = true ↔ cw_SL a_lineFirst a_lineZeros a_lineOnes a_lineFollow a_back (R + c) (cw_g R C n (R + c)) r p))
    (H1 : ∀ x8, (∀ q, bt x8 q = true ↔ cw_SL a_lineFirst a_lineZeros a_lineOnes a_lineFollow a_back (R + c) (cw_g R C n (R + c)) (r + 1) q) → (∃ q, cw_SL a_lineFirst a_lineZeros a_lineOnes a_lineFollow a_back (R + c) (cw_g R C n (R + c)) (r + 1) q) → post 1 (nI R, f_columns, f_lines, f_cells, f_height, f_places, f_ready, f_found, f_number, f_allOnes, f_anyOnes, a_rowOf, a_columnOf, a_pins, a_low, a_first, a_last, a_empty, a_kind, a_follow, a_turned, a_lineFirst, a_lineLast, a_lineEmpty, a_lineZeros, a_lineOnes, a_lineFollow, a_back, upd a_digit d (nI v), a_tried, upd a_rowSet d x6, upd a_columnSet d x8))
    (H0 : ¬ (∃ q, cw_SL a_lineFirst a_lineZeros a_lineOnes a_lineFollow a_back (R + c) (cw_g R C n (R + c)) (r + 1) q) → post 0 (nI R, f_columns, f_lines, f_cells, f_height, f_places, f_ready, f_found, f_number, f_allOnes, f_anyOnes, a_rowOf, a_columnOf, a_pins, a_low, a_first, a_last, a_empty, a_kind, a_follow, a_turned, a_lineFirst, a_lineLast, a_lineEmpty, a_lineZeros, a_lineOnes, a_lineFollow, a_back, a_digit, a_tried, a_rowSet, a_columnSet)) :
    wX_place_114 post (nI d) (nI v) (nI r) (nI c) x6 x7 (nI R) f_columns f_lines f_cells f_height f_places f_ready f_found f_number f_allOnes f_anyOnes a_rowOf a_columnOf a_pins a_low a_first a_last a_empty a_kind a_follow a_turned a_lineFirst a_lineLast a_lineEmpty a_lineZeros a_lineOnes a_lineFollow a_back a_digit a_tried a_rowSet a_columnSet := by
  have hN := cw_N12 hrc
  have hdN := cw_rc hr hc
  obtain ⟨h1, h2, h3, h4⟩ := hrc
  have ed : nI R + nI c = nI (R + c) := nI_add _ _
  have ex : nI (R + c) * 5 + nI r + 1 = nI ((R + c) * 5 + (r + 1)) := by
    show nI (R + c) * nI 5 + nI r + nI 1 = _
    rw [pk_mul, nI_add, nI_add]
    rfl
  have hg : cw_g R C n (R + c) r = v := by
    unfold cw_g
    rw [cw_clc (by omega), show R + c - R = c from by omega, hd]
    exact hdig
  have hi : vp_in (nI d) 12 := vp_in_nI (by omega) (by omega)
  unfold wX_place_114
  rw [ed, ex, nI_clamp (n := (R + c) * 5 + (r + 1)) (by omega), nI_clamp (n := d) (by omega)]
  refine cx_step (by omega) hv (fun w hw => ⟨vp_in_nI (by omega) (by omega), nm_e ?_⟩)
  have hb := cw_adv (bk := a_back) hg h7 hw
  refine br_c (fun z => H0 (fun ⟨q, hq⟩ => ?_)) (fun z => ?_)
  · have y := (hb q).mpr hq
    rw [z] at y
    exact cw_0T y
  · obtain ⟨q, hq⟩ := cw_nz.mp z
    exact ⟨hi, nm_e ⟨hi, nm_e ⟨hi, nm_e (H1 _ hb ⟨q, (hb q).mp hq⟩)⟩⟩⟩
theorem cx_pl57 {post : Int32 → SX → Prop} {R C d r c v n : Nat} {x5 : Int32} (hrc : cw_RC R C) (hr : r < R) (hc : c < C) (hd : r * C + c = d) (hv : v < 2) (hdig : cw_dig (R * C) n d = v)
    (hI : cw_SI R C a_lineFirst a_lineZeros a_lineOnes a_lineFollow a_back d n a_digit a_rowSet a_columnSet)
    (h5 : ∀ p, p < 9 → (bt x5 p = true ↔ cw_SL a_lineFirst a_lineZeros a_lineOnes a_lineFollow a_back r (cw_g R C n r) c p))
    (H1 : ∀ x6 x8, (∀ q, bt x6 q = true ↔ cw_SL a_lineFirst a_lineZeros a_lineOnes a_lineFollow a_back r (cw_g R C n r) (c + 1) q) → (∀ q, bt x8 q = true ↔ cw_SL a_lineFirst a_lineZeros a_lineOnes a_lineFollow a_back (R + c) (cw_g R C n (R + c)) (r + 1) q) → (∃ q, cw_SL a_lineFirst a_lineZeros a_lineOnes a_lineFollow a_back r (cw_g R C n r) (c + 1) q) → (∃ q, cw_SL a_lineFirst a_lineZeros a_lineOnes a_lineFollow a_back (R + c) (cw_g R C n (R + c)) (r + 1) q) → post 1 (nI R, nI C, f_lines, f_cells, f_height, f_places, f_ready, f_found, f_number, f_allOnes, f_anyOnes, a_rowOf, a_columnOf, a_pins, a_low, a_first, a_last, a_empty, a_kind, a_follow, a_turned, a_lineFirst, a_lineLast, a_lineEmpty, a_lineZeros, a_lineOnes, a_lineFollow, a_back, upd a_digit d (nI v), a_tried, upd a_rowSet d x6, upd a_columnSet d x8))
    (H0 : ¬ ((∃ q, cw_SL a_lineFirst a_lineZeros a_lineOnes a_lineFollow a_back r (cw_g R C n r) (c + 1) q) ∧ (∃ q, cw_SL a_lineFirst a_lineZeros a_lineOnes a_lineFollow a_back (R + c) (cw_g R C n (R + c)) (r + 1) q)) → post 0 (nI R, nI C, f_lines, f_cells, f_height, f_places, f_ready, f_found, f_number, f_allOnes, f_anyOnes, a_rowOf, a_columnOf, a_pins, a_low, a_first, a_last, a_empty, a_kind, a_follow, a_turned, a_lineFirst, a_lineLast, a_lineEmpty, a_lineZeros, a_lineOnes, a_lineFollow, a_back, a_digit, a_tried, a_rowSet, a_columnSet)) :
    wX_place_57 post (nI d) (nI v) (nI r) (nI c) x5 (nI R) (nI C) f_lines f_cells f_height f_places f_ready f_found f_number f_allOnes f_anyOnes a_rowOf a_columnOf a_pins a_low a_first a_last a_empty a_kind a_follow a_turned a_lineFirst a_lineLast a_lineEmpty a_lineZeros a_lineOnes a_lineFollow a_back a_digit a_tried a_rowSet a_columnSet := by
  have hN := cw_N12 hrc
  have hdN := cw_rc hr hc
  have hR := hrc
  obtain ⟨h1, h2, h3, h4⟩ := hR
  have ex : nI r * 5 + nI c + 1 = nI (r * 5 + (c + 1)) := by
    show nI r * nI 5 + nI c + nI 1 = _
    rw [pk_mul, nI_add, nI_add]
    rfl
  have hg : cw_g R C n r c = v := by
    unfold cw_g
    rw [cw_clr hr, hd]
    exact hdig
  unfold wX_place_57
  rw [ex, nI_clamp (n := r * 5 + (c + 1)) (by omega)]
  refine cx_step (by omega) hv (fun w hw => ⟨vp_in_nI (by omega) (by omega), nm_e ?_⟩)
  have hb := cw_adv (bk := a_back) hg h5 hw
  refine br_c (fun z => H0 (fun ⟨⟨q, hq⟩, _⟩ => ?_)) (fun z => ?_)
  · have y := (hb q).mpr hq
    rw [z] at y
    exact cw_0T y
  · obtain ⟨q, hq⟩ := cw_nz.mp z
    have hq' : ∃ q, cw_SL a_lineFirst a_lineZeros a_lineOnes a_lineFollow a_back r (cw_g R C n r) (c + 1) q := ⟨q, (hb q).mp hq⟩
    by_cases y : r = 0
    · refine br_t ?_ ?_
      · rw [y]; decide
      · refine cx_pl114 hrc hr hc hd hv hdig (fun p hp => ?_) (fun x8 g1 g2 => H1 _ x8 hb g1 hq' g2) (fun g => H0 (fun t => g t.2))
        rw [cw_256, decide_eq_true_iff, y]
        exact Iff.rfl
    · obtain ⟨s, rfl⟩ : ∃ s, r = s + 1 := ⟨r - 1, by omega⟩
      have e2 : d - C = s * C + c := by
        have := Nat.add_mul s 1 C
        omega
      have hCd : C ≤ d := by
        have := Nat.add_mul s 1 C
        omega
      have es : nI d - nI C = nI (d - C) := pk_sub hCd
      have e1 := cw_dc (r := s) hc
      refine br_f (nI_ge (a := 0) (by omega) (by omega)) ?_
      rw [es, nI_clamp (by omega)]
      refine ⟨vp_in_nI (by omega) (by omega), nm_e (cx_pl114 hrc hr hc hd hv hdig (fun p hp => ?_) (fun x8 g1 g2 => H1 _ x8 hb g1 hq' g2) (fun g => H0 (fun t => g t.2)))⟩
      have z := (hI (d - C) (by omega)).2.2 p
      rw [e2, e1.1, e1.2, ← e2] at z
      exact z
theorem cx_place {post : Int32 → SX → Prop} {R C d v n : Nat} (hrc : cw_RC R C) (hro : ∀ e, e < R * C → a_rowOf e = nI (e / C) ∧ a_columnOf e = nI (e % C)) (hd : d < R * C) (hv : v < 2) (hdig : cw_dig (R * C) n d = v)
    (hI : cw_SI R C a_lineFirst a_lineZeros a_lineOnes a_lineFollow a_back d n a_digit a_rowSet a_columnSet)
    (H1 : cw_PC R C a_pins a_lineFirst a_lineZeros a_lineOnes a_lineFollow a_back n d → ∀ dg rs cs : Nat → Int32, cw_SI R C a_lineFirst a_lineZeros a_lineOnes a_lineFollow a_back (d + 1) n dg rs cs → post 1 (nI R, nI C, f_lines, f_cells, f_height, f_places, f_ready, f_found, f_number, f_allOnes, f_anyOnes, a_rowOf, a_columnOf, a_pins, a_low, a_first, a_last, a_empty, a_kind, a_follow, a_turned, a_lineFirst, a_lineLast, a_lineEmpty, a_lineZeros, a_lineOnes, a_lineFollow, a_back, dg, a_tried, rs, cs))
    (H0 : ¬ cw_PC R C a_pins a_lineFirst a_lineZeros a_lineOnes a_lineFollow a_back n d → post 0 (nI R, nI C, f_lines, f_cells, f_height, f_places, f_ready, f_found, f_number, f_allOnes, f_anyOnes, a_rowOf, a_columnOf, a_pins, a_low, a_first, a_last, a_empty, a_kind, a_follow, a_turned, a_lineFirst, a_lineLast, a_lineEmpty, a_lineZeros, a_lineOnes, a_lineFollow, a_back, a_digit, a_tried, a_rowSet, a_columnSet)) :
    wpX_place post (nI R, nI C, f_lines, f_cells, f_height, f_places, f_ready, f_found, f_number, f_allOnes, f_anyOnes, a_rowOf, a_columnOf, a_pins, a_low, a_first, a_last, a_empty, a_kind, a_follow, a_turned, a_lineFirst, a_lineLast, a_lineEmpty, a_lineZeros, a_lineOnes, a_lineFollow, a_back, a_digit, a_tried, a_rowSet, a_columnSet) (nI d) (nI v) := by
  have hN := cw_N12 hrc
  have hR := hrc
  obtain ⟨h1, h2, h3, h4⟩ := hR
  obtain ⟨r, c, hr, hc, ed⟩ : ∃ r c, r < R ∧ c < C ∧ r * C + c = d := ⟨d / C, d % C, (cw_dd h3 hd).1, (cw_dd h3 hd).2.1, (cw_dd h3 hd).2.2⟩
  have edr : d / C = r := by rw [← ed]; exact (cw_dc hc).1
  have edc : d % C = c := by rw [← ed]; exact (cw_dc hc).2
  have hi : vp_in (nI d) 12 := vp_in_nI (by omega) (by omega)
  have J22 : cw_ok (R * C) a_pins n d → wX_place_22 post (nI d) (nI v) (nI R) (nI C) f_lines f_cells f_height f_places f_ready f_found f_number f_allOnes f_anyOnes a_rowOf a_columnOf a_pins a_low a_first a_last a_empty a_kind a_follow a_turned a_lineFirst a_lineLast a_lineEmpty a_lineZeros a_lineOnes a_lineFollow a_back a_digit a_tried a_rowSet a_columnSet := by
    intro hok
    have K1 : ∀ x6 x8, (∀ q, bt x6 q = true ↔ cw_SL a_lineFirst a_lineZeros a_lineOnes a_lineFollow a_back r (cw_g R C n r) (c + 1) q) → (∀ q, bt x8 q = true ↔ cw_SL a_lineFirst a_lineZeros a_lineOnes a_lineFollow a_back (R + c) (cw_g R C n (R + c)) (r + 1) q) → (∃ q, cw_SL a_lineFirst a_lineZeros a_lineOnes a_lineFollow a_back r (cw_g R C n r) (c + 1) q) → (∃ q, cw_SL a_lineFirst a_lineZeros a_lineOnes a_lineFollow a_back (R + c) (cw_g R C n (R + c)) (r + 1) q) → post 1 (nI R, nI C, f_lines, f_cells, f_height, f_places, f_ready, f_found, f_number, f_allOnes, f_anyOnes, a_rowOf, a_columnOf, a_pins, a_low, a_first, a_last, a_empty, a_kind, a_follow, a_turned, a_lineFirst, a_lineLast, a_lineEmpty, a_lineZeros, a_lineOnes, a_lineFollow, a_back, upd a_digit d (nI v), a_tried, upd a_rowSet d x6, upd a_columnSet d x8) := by
      intro x6 x8 g1 g2 g3 g4
      refine H1 ⟨hok, by rw [edr, edc]; exact g3, by rw [edr, edc]; exact g4⟩ _ _ _ (fun e he => ?_)
      by_cases z : e = d
      · subst z
        rw [pk_us, pk_us, pk_us, hdig, edr, edc]
        exact ⟨rfl, g1, g2⟩
      · rw [pk_un z, pk_un z, pk_un z]
        exact hI e (by omega)
    have K0 : ¬ ((∃ q, cw_SL a_lineFirst a_lineZeros a_lineOnes a_lineFollow a_back r (cw_g R C n r) (c + 1) q) ∧ (∃ q, cw_SL a_lineFirst a_lineZeros a_lineOnes a_lineFollow a_back (R + c) (cw_g R C n (R + c)) (r + 1) q)) → post 0 (nI R, nI C, f_lines, f_cells, f_height, f_places, f_ready, f_found, f_number, f_allOnes, f_anyOnes, a_rowOf, a_columnOf, a_pins, a_low, a_first, a_last, a_empty, a_kind, a_follow, a_turned, a_lineFirst, a_lineLast, a_lineEmpty, a_lineZeros, a_lineOnes, a_lineFollow, a_back, a_digit, a_tried, a_rowSet, a_columnSet) := fun g => H0 (fun t => g (by
      have t2 := t.2
      rw [edr, edc] at t2
      exact t2))
    have h1' : a_rowOf d = nI r := by rw [(hro d hd).1, edr]
    have h2' : a_columnOf d = nI c := by rw [(hro d hd).2, edc]
    unfold wX_place_22
    rw [nI_clamp (n := d) (by omega)]
    refine ⟨hi, nm_r h1' ⟨hi, nm_r h2' ?_⟩⟩
    by_cases y : c = 0
    · refine br_t ?_ ?_
      · rw [y]; decide
      · refine cx_pl57 hrc hr hc ed hv hdig hI (fun p hp => ?_) K1 K0
        rw [cw_256, decide_eq_true_iff, y]
        exact Iff.rfl
    · obtain ⟨s, rfl⟩ : ∃ s, c = s + 1 := ⟨c - 1, by omega⟩
      have e1 := cw_dc (r := r) (c := s) (C := C) (by omega)
      have e2 : d - 1 = r * C + s := by omega
      have es : nI d - 1 = nI (d - 1) := cw_s1 (by omega)
      refine br_f (nI_ge (a := 0) (by omega) (by omega)) ?_
      rw [es, nI_clamp (by omega)]
      refine ⟨vp_in_nI (by omega) (by omega), nm_e (cx_pl57 hrc hr hc ed hv hdig hI (fun p hp => ?_) K1 K0)⟩
      have z := (hI (d - 1) (by omega)).2.1 p
      rw [e2, e1.1, e1.2, ← e2] at z
      exact z
  unfold wpX_place
  dsimp only
  rw [nI_clamp (n := d) (by omega)]
  refine ⟨hi, br_c (fun z => J22 (Or.inl z)) (fun z => ⟨hi, br_c (fun y => J22 (Or.inr (by rw [hdig]; exact y))) (fun y => H0 (fun t => ?_))⟩)⟩
  have t1 := t.1
  unfold cw_ok at t1
  rw [hdig] at t1
  exact t1.elim z y
end
theorem cw_wvdig {N n : Nat} : ∀ t, t ≤ N → n < 2 ^ N → cw_wv (cw_dig N n) t = n / 2 ^ (N - t)
  | 0, _, hn => by
    rw [Nat.sub_zero, Nat.div_eq_of_lt hn]
    rfl
  | t + 1, ht, hn => by
    have ih := cw_wvdig (N := N) (n := n) t (by omega) hn
    show cw_wv (cw_dig N n) t * 2 + n / 2 ^ (N - 1 - t) % 2 = n / 2 ^ (N - (t + 1))
    rw [ih, show N - t = (N - 1 - t) + 1 from by omega, show N - (t + 1) = N - 1 - t from by omega, Nat.pow_succ, ← Nat.div_div_eq_div_mul]
    generalize n / 2 ^ (N - 1 - t) = x
    omega
section
variable {f_rows f_columns f_lines f_cells f_height f_places f_ready f_found f_number f_allOnes f_anyOnes : Int32} {a_rowOf a_columnOf a_pins a_low a_first a_last a_empty a_kind a_follow a_turned a_lineFirst a_lineLast a_lineEmpty a_lineZeros a_lineOnes a_lineFollow a_back a_digit a_tried a_rowSet a_columnSet : Nat → Int32}
theorem cx_enter {post : Int32 → SX → Prop} {N n : Nat} {stop bound : Int32} (hN : N ≤ 12) (hn : n < 2 ^ N) (hdg : ∀ e, e < N → a_digit e = nI (cw_dig N n e))
    (H1 : nI n < bound → f_found + 1 = stop → post 1 (f_rows, f_columns, f_lines, nI N, f_height, f_places, f_ready, f_found + 1, nI n, f_allOnes &&& nI n, f_anyOnes ||| nI n, a_rowOf, a_columnOf, a_pins, a_low, a_first, a_last, a_empty, a_kind, a_follow, a_turned, a_lineFirst, a_lineLast, a_lineEmpty, a_lineZeros, a_lineOnes, a_lineFollow, a_back, a_digit, a_tried, a_rowSet, a_columnSet))
    (H2 : nI n < bound → ¬ f_found + 1 = stop → post 0 (f_rows, f_columns, f_lines, nI N, f_height, f_places, f_ready, f_found + 1, nI n, f_allOnes &&& nI n, f_anyOnes ||| nI n, a_rowOf, a_columnOf, a_pins, a_low, a_first, a_last, a_empty, a_kind, a_follow, a_turned, a_lineFirst, a_lineLast, a_lineEmpty, a_lineZeros, a_lineOnes, a_lineFollow, a_back, a_digit, a_tried, a_rowSet, a_columnSet))
    (H3 : ¬ nI n < bound → post 1 (f_rows, f_columns, f_lines, nI N, f_height, f_places, f_ready, f_found, f_number, f_allOnes, f_anyOnes, a_rowOf, a_columnOf, a_pins, a_low, a_first, a_last, a_empty, a_kind, a_follow, a_turned, a_lineFirst, a_lineLast, a_lineEmpty, a_lineZeros, a_lineOnes, a_lineFollow, a_back, a_digit, a_tried, a_rowSet, a_columnSet)) :
    wpX_enter post (f_rows, f_columns, f_lines, nI N, f_height, f_places, f_ready, f_found, f_number, f_allOnes, f_anyOnes, a_rowOf, a_columnOf, a_pins, a_low, a_first, a_last, a_empty, a_kind, a_follow, a_turned, a_lineFirst, a_lineLast, a_lineEmpty, a_lineZeros, a_lineOnes, a_lineFollow, a_back, a_digit, a_tried, a_rowSet, a_columnSet) stop bound := by
  show ∃ n5 : Nat, wX_enter_5 post stop bound f_rows f_columns f_lines (nI N) f_height f_places f_ready f_found f_number f_allOnes f_anyOnes a_rowOf a_columnOf a_pins a_low a_first a_last a_empty a_kind a_follow a_turned a_lineFirst a_lineLast a_lineEmpty a_lineZeros a_lineOnes a_lineFollow a_back a_digit a_tried a_rowSet a_columnSet n5 0 0
  refine loop_0 (fun k i s => wX_enter_5 post stop bound f_rows f_columns f_lines (nI N) f_height f_places f_ready f_found f_number f_allOnes f_anyOnes a_rowOf a_columnOf a_pins a_low a_first a_last a_empty a_kind a_follow a_turned a_lineFirst a_lineLast a_lineEmpty a_lineZeros a_lineOnes a_lineFollow a_back a_digit a_tried a_rowSet a_columnSet k s (nI i)) (fun i s => s = nI (cw_wv (cw_dig N n) i)) N 0 rfl ?_ ?_
  · intro k s hI
    rw [cw_wvdig N (Nat.le_refl _) hn, Nat.sub_self, Nat.pow_zero, Nat.div_one] at hI
    subst hI
    exact br_t (nI_le (Nat.le_refl _) (by omega)) (br_c (fun a => nm_e (nm_e (nm_e (br_c (fun b => H1 a b) (fun b => H2 a b))))) (fun a => H3 a))
  · intro k i s hi hI K
    subst hI
    refine br_f (nI_ge hi (by omega)) ⟨vp_in_nI (by omega) (by omega), nm_r (e' := nI (cw_wv (cw_dig N n) (i + 1))) ?_ (nm_r (nI_1 i) (K _ rfl))⟩
    rw [nI_clamp (by omega), hdg i hi]
    show _ * nI 2 + _ = _
    rw [pk_mul, nI_add]
    rfl
end
end
section
/-! ===== the component: the search ===== -/
def cw_QZ (N : Nat) (F : Nat → Prop) (stop bound : Int32) (Q : Nat → Int32 → Int32 → Int32 → Int32 → Prop) (Z : Int32 → Int32 → Int32 → Int32 → Prop) : Prop :=
  (∀ j fo nu al an, j < 2 ^ N → ¬ F j → Q j fo nu al an → Q (j + 1) fo nu al an) ∧
  (∀ j fo nu al an, j < 2 ^ N → F j → Q j fo nu al an → nI j < bound → fo + 1 = stop → Z (fo + 1) (nI j) (al &&& nI j) (an ||| nI j)) ∧
  (∀ j fo nu al an, j < 2 ^ N → F j → Q j fo nu al an → nI j < bound → ¬ fo + 1 = stop → Q (j + 1) (fo + 1) (nI j) (al &&& nI j) (an ||| nI j)) ∧
  (∀ j fo nu al an, j < 2 ^ N → F j → Q j fo nu al an → ¬ nI j < bound → Z fo nu al an)
theorem cw_skip {N : Nat} {F : Nat → Prop} {stop bound : Int32} {Q : Nat → Int32 → Int32 → Int32 → Int32 → Prop} {Z : Int32 → Int32 → Int32 → Int32 → Prop} (h : cw_QZ N F stop bound Q Z) {fo nu al an : Int32} {n : Nat} : ∀ c, n + c ≤ 2 ^ N → (∀ x, x < c → ¬ F (n + x)) → Q n fo nu al an → Q (n + c) fo nu al an
  | 0, _, _, q => q
  | c + 1, a, b, q => h.1 (n + c) fo nu al an (by omega) (b c (by omega)) (cw_skip h c (by omega) (fun x hx => b x (by omega)) q)
theorem cw_dige {N k e m x : Nat} (h : e + k < N) (hx : x < 2 ^ k) : cw_dig N (m * 2 ^ k + x) e = m / 2 ^ (N - 1 - e - k) % 2 := by
  obtain ⟨s, hs⟩ : ∃ s, N - 1 - e = k + s := ⟨N - 1 - e - k, by omega⟩
  unfold cw_dig
  rw [hs, Nat.add_sub_cancel_left, Nat.pow_add, ← Nat.div_div_eq_div_mul, Nat.mul_comm m, Nat.mul_add_div (Nat.two_pow_pos k), Nat.div_eq_of_lt hx, Nat.add_zero]
theorem cw_agr {N k e m x y : Nat} (h : e + k < N) (hx : x < 2 ^ k) (hy : y < 2 ^ k) : cw_dig N (m * 2 ^ k + x) e = cw_dig N (m * 2 ^ k + y) e := by
  rw [cw_dige h hx, cw_dige h hy]
theorem cw_agr0 {N k e m x : Nat} (h : e + k < N) (hx : x < 2 ^ k) : cw_dig N (m * 2 ^ k + x) e = cw_dig N (m * 2 ^ k) e := cw_agr (y := 0) h hx (Nat.two_pow_pos k)
theorem cw_ch2 (m v P : Nat) : (2 * m + v) * P = m * (P * 2) + v * P := by
  rw [Nat.add_mul, Nat.mul_comm P 2, ← Nat.mul_assoc, Nat.mul_comm m 2]
theorem cw_chd {N k d m v : Nat} (hdk : d + (k + 1) = N) (hv : v < 2) : cw_dig N ((2 * m + v) * 2 ^ k) d = v := by
  have h := cw_dige (N := N) (k := k) (e := d) (m := 2 * m + v) (x := 0) (by omega) (Nat.two_pow_pos k)
  rw [Nat.add_zero, show N - 1 - d - k = 0 from by omega, Nat.pow_zero, Nat.div_one] at h
  rw [h]
  omega
theorem cw_chp {N k d m v e : Nat} (hdk : d + (k + 1) = N) (hv : v < 2) (he : e < d) : cw_dig N (m * 2 ^ (k + 1)) e = cw_dig N ((2 * m + v) * 2 ^ k) e := by
  have hP := Nat.two_pow_pos k
  rw [cw_ch2, ← Nat.pow_succ]
  refine (cw_agr0 (by omega) ?_).symm
  rw [Nat.pow_succ]
  have : v * 2 ^ k ≤ 1 * 2 ^ k := Nat.mul_le_mul_right _ (by omega)
  omega
section
variable {f_rows f_columns f_lines f_cells f_height f_places f_ready f_found f_number f_allOnes f_anyOnes : Int32} {a_rowOf a_columnOf a_pins a_low a_first a_last a_empty a_kind a_follow a_turned a_lineFirst a_lineLast a_lineEmpty a_lineZeros a_lineOnes a_lineFollow a_back a_digit a_tried a_rowSet a_columnSet : Nat → Int32}
theorem cx_over {post : SX → Prop} {stop bound : Int32} {R C d ρ : Nat} (fo nu al an : Int32) (dg tr rs cs : Nat → Int32)
    (hd : d < 12) (hρ : ρ ≤ 20000) (h : post (nI R, nI C, f_lines, nI (R * C), f_height, f_places, f_ready, fo, nu, al, an, a_rowOf, a_columnOf, a_pins, a_low, a_first, a_last, a_empty, a_kind, a_follow, a_turned, a_lineFirst, a_lineLast, a_lineEmpty, a_lineZeros, a_lineOnes, a_lineFollow, a_back, dg, tr, rs, cs)) : wX_scan_49 post stop bound (20001 - ρ) (nI d) 1 (nI ρ) (nI R) (nI C) f_lines (nI (R * C)) f_height f_places f_ready fo nu al an a_rowOf a_columnOf a_pins a_low a_first a_last a_empty a_kind a_follow a_turned a_lineFirst a_lineLast a_lineEmpty a_lineZeros a_lineOnes a_lineFollow a_back dg tr rs cs := by
  obtain ⟨f, hf⟩ : ∃ f, 20001 - ρ = f + 1 := ⟨20000 - ρ, by omega⟩
  rw [hf]
  exact br_c (fun _ => h) (fun _ => br_c (fun _ => h) (fun _ => br_f (by decide) h))
theorem cx_try {post : SX → Prop} {stop bound : Int32} {R C k d m v : Nat} {Q : Nat → Int32 → Int32 → Int32 → Int32 → Prop} {Z : Int32 → Int32 → Int32 → Int32 → Prop}
    (hrc : cw_RC R C) (hro : ∀ e, e < R * C → a_rowOf e = nI (e / C) ∧ a_columnOf e = nI (e % C)) (hdk : d + (k + 1) = R * C) (hv : v < 2) (hm : (m + 1) * 2 ^ (k + 1) ≤ 2 ^ (R * C))
    (hQZ : cw_QZ (R * C) (fun n => ∀ e, e < R * C → cw_PC R C a_pins a_lineFirst a_lineZeros a_lineOnes a_lineFollow a_back n e) stop bound Q Z)
    (hZ : ∀ (fo nu al an : Int32) (dg tr rs cs : Nat → Int32), Z fo nu al an → post (nI R, nI C, f_lines, nI (R * C), f_height, f_places, f_ready, fo, nu, al, an, a_rowOf, a_columnOf, a_pins, a_low, a_first, a_last, a_empty, a_kind, a_follow, a_turned, a_lineFirst, a_lineLast, a_lineEmpty, a_lineZeros, a_lineOnes, a_lineFollow, a_back, dg, tr, rs, cs))
    (sub : 1 ≤ k → ∀ (ρ : Nat) (fo nu al an : Int32) (dg tr rs cs : Nat → Int32), (∀ e, e < d + 1 → cw_PC R C a_pins a_lineFirst a_lineZeros a_lineOnes a_lineFollow a_back ((2 * m + v) * 2 ^ k) e) → cw_SI R C a_lineFirst a_lineZeros a_lineOnes a_lineFollow a_back (d + 1) ((2 * m + v) * 2 ^ k) dg rs cs → tr (d + 1) = 0 → Q ((2 * m + v) * 2 ^ k) fo nu al an → ρ + (3 * 2 ^ k - 3) ≤ 20000 →
      (∀ (ρ' : Nat) (fo' nu' al' an' : Int32) (dg' tr' rs' cs' : Nat → Int32), ρ' ≤ ρ + (3 * 2 ^ k - 3) → cw_SI R C a_lineFirst a_lineZeros a_lineOnes a_lineFollow a_back (d + 1) ((2 * m + v) * 2 ^ k) dg' rs' cs' → (∀ e, e < d + 1 → tr' e = tr e) → Q ((2 * m + v + 1) * 2 ^ k) fo' nu' al' an' → wX_scan_49 post stop bound (20001 - ρ') (nI (d + 1) + (-1)) 0 (nI ρ') (nI R) (nI C) f_lines (nI (R * C)) f_height f_places f_ready fo' nu' al' an' a_rowOf a_columnOf a_pins a_low a_first a_last a_empty a_kind a_follow a_turned a_lineFirst a_lineLast a_lineEmpty a_lineZeros a_lineOnes a_lineFollow a_back dg' tr' rs' cs') →
      wX_scan_49 post stop bound (20001 - ρ) (nI (d + 1)) 0 (nI ρ) (nI R) (nI C) f_lines (nI (R * C)) f_height f_places f_ready fo nu al an a_rowOf a_columnOf a_pins a_low a_first a_last a_empty a_kind a_follow a_turned a_lineFirst a_lineLast a_lineEmpty a_lineZeros a_lineOnes a_lineFollow a_back dg tr rs cs)
    (ρ : Nat) (fo nu al an : Int32) (dg tr rs cs : Nat → Int32) (hG : ∀ e, e < d → cw_PC R C a_pins a_lineFirst a_lineZeros a_lineOnes a_lineFollow a_back (m * 2 ^ (k + 1)) e) (hI : cw_SI R C a_lineFirst a_lineZeros a_lineOnes a_lineFollow a_back d (m * 2 ^ (k + 1)) dg rs cs) (ht : tr d = nI v) (hq : Q ((2 * m + v) * 2 ^ k) fo nu al an) (hρ : ρ + (3 * 2 ^ k - 2) ≤ 20000)
    (K : ∀ (ρ' : Nat) (fo' nu' al' an' : Int32) (dg' tr' rs' cs' : Nat → Int32), ρ' ≤ ρ + (3 * 2 ^ k - 2) → cw_SI R C a_lineFirst a_lineZeros a_lineOnes a_lineFollow a_back d (m * 2 ^ (k + 1)) dg' rs' cs' → (∀ e, e < d → tr' e = tr e) → tr' d = nI (v + 1) → Q ((2 * m + v + 1) * 2 ^ k) fo' nu' al' an' → wX_scan_49 post stop bound (20001 - ρ') (nI d) 0 (nI ρ') (nI R) (nI C) f_lines (nI (R * C)) f_height f_places f_ready fo' nu' al' an' a_rowOf a_columnOf a_pins a_low a_first a_last a_empty a_kind a_follow a_turned a_lineFirst a_lineLast a_lineEmpty a_lineZeros a_lineOnes a_lineFollow a_back dg' tr' rs' cs') :
    wX_scan_49 post stop bound (20001 - ρ) (nI d) 0 (nI ρ) (nI R) (nI C) f_lines (nI (R * C)) f_height f_places f_ready fo nu al an a_rowOf a_columnOf a_pins a_low a_first a_last a_empty a_kind a_follow a_turned a_lineFirst a_lineLast a_lineEmpty a_lineZeros a_lineOnes a_lineFollow a_back dg tr rs cs := by
  have hP := Nat.two_pow_pos k
  have hN := cw_N12 hrc
  have hC : 1 ≤ C := hrc.2.2.1
  have hdN : d < R * C := by omega
  have hdig := cw_chd (m := m) hdk hv
  have hpre : ∀ e, e < d → cw_dig (R * C) (m * 2 ^ (k + 1)) e = cw_dig (R * C) ((2 * m + v) * 2 ^ k) e := fun e he => cw_chp hdk hv he
  have hI' : cw_SI R C a_lineFirst a_lineZeros a_lineOnes a_lineFollow a_back d ((2 * m + v) * 2 ^ k) dg rs cs := cw_SIc hC (by omega) hpre hI
  have hG' : ∀ e, e < d → cw_PC R C a_pins a_lineFirst a_lineZeros a_lineOnes a_lineFollow a_back ((2 * m + v) * 2 ^ k) e := fun e he => (cw_PCc hC (by omega) (fun i hi => hpre i (by omega))).mp (hG e he)
  have hback : ∀ dg' rs' cs' : Nat → Int32, cw_SI R C a_lineFirst a_lineZeros a_lineOnes a_lineFollow a_back (d + 1) ((2 * m + v) * 2 ^ k) dg' rs' cs' → cw_SI R C a_lineFirst a_lineZeros a_lineOnes a_lineFollow a_back d (m * 2 ^ (k + 1)) dg' rs' cs' := fun dg' rs' cs' h => cw_SIc hC (by omega) (fun e he => (hpre e he).symm) (fun e he => h e (by omega))
  have hend : (2 * m + v + 1) * 2 ^ k = (2 * m + v) * 2 ^ k + 2 ^ k := by rw [Nat.add_mul (2 * m + v) 1, Nat.one_mul]
  have htop : (2 * m + v) * 2 ^ k + 2 ^ k ≤ 2 ^ (R * C) := by
    refine Nat.le_trans ?_ hm
    rw [← hend, Nat.pow_succ, Nat.mul_comm (2 ^ k) 2, ← Nat.mul_assoc]
    exact Nat.mul_le_mul_right _ (by omega)
  have ef : 20001 - ρ = (20001 - (ρ + 1)) + 1 := by omega
  have hd12 : vp_in (nI d) 12 := vp_in_nI (by omega) (by omega)
  have htr : ∀ e, e < d → upd tr d (nI (v + 1)) e = tr e := fun e he => pk_un (by omega)
  rw [ef]
  obtain ⟨f, hf⟩ : ∃ f, 20001 - (ρ + 1) = f := ⟨_, rfl⟩
  rw [hf]
  refine br_f (nI_ge (b := 20000) (by omega) (by omega)) (br_f (nI_pos (by omega)) (br_t rfl ⟨hd12, nm_r (e' := nI v) (by rw [nI_clamp (by omega), ht]) (br_f (cw_ne (b := 2) (by omega) (by omega) (by omega)) ⟨hd12, nm_r (e' := upd tr d (nI (v + 1))) (by rw [nI_clamp (by omega), nI_1]) ?_⟩)⟩))
  refine cx_place hrc hro hdN hv hdig hI' (fun hpc dg' rs' cs' hI2 => ?_) (fun hpc => ?_)
  · have hG2 : ∀ e, e < d + 1 → cw_PC R C a_pins a_lineFirst a_lineZeros a_lineOnes a_lineFollow a_back ((2 * m + v) * 2 ^ k) e := lt_s (p := fun e => cw_PC R C a_pins a_lineFirst a_lineZeros a_lineOnes a_lineFollow a_back ((2 * m + v) * 2 ^ k) e) hG' hpc
    rcases Nat.eq_zero_or_pos k with hk | hk
    · subst hk
      have hF : ∀ e, e < R * C → cw_PC R C a_pins a_lineFirst a_lineZeros a_lineOnes a_lineFollow a_back ((2 * m + v) * 2 ^ 0) e := fun e he => hG2 e (by omega)
      rw [Nat.pow_zero] at hend htop
      have hq1 : ∀ fo' nu' al' an', Q ((2 * m + v) * 2 ^ 0 + 1) fo' nu' al' an' → Q ((2 * m + v + 1) * 2 ^ 0) fo' nu' al' an' := by
        intro a b c e h
        rw [show (2 * m + v + 1) * 2 ^ 0 = (2 * m + v) * 2 ^ 0 + 1 from by rw [Nat.pow_zero]; omega]
        exact h
      have hlt : (2 * m + v) * 2 ^ 0 < 2 ^ (R * C) := by rw [Nat.pow_zero]; omega
      refine br_f (by decide) (br_t ?_ ?_)
      · rw [cw_s1 hN.1]
        exact congrArg nI (by omega)
      · refine cx_enter hN.2 hlt (fun e he => (hI2 e (by omega)).1) (fun a b => ?_) (fun a b => ?_) (fun a => ?_)
        · refine nm_r (nI_1 ρ) ?_
          rw [← hf]
          exact cx_over _ _ _ _ _ _ _ _ (by omega) (by omega) (hZ _ _ _ _ _ _ _ _ (hQZ.2.1 _ _ _ _ _ hlt hF hq a b))
        · refine nm_r (nI_1 ρ) ?_
          rw [← hf]
          exact K (ρ + 1) _ _ _ _ _ _ _ _ (by omega) (hback _ _ _ hI2) htr pk_us (hq1 _ _ _ _ (hQZ.2.2.1 _ _ _ _ _ hlt hF hq a b))
        · refine nm_r (nI_1 ρ) ?_
          rw [← hf]
          exact cx_over _ _ _ _ _ _ _ _ (by omega) (by omega) (hZ _ _ _ _ _ _ _ _ (hQZ.2.2.2 _ _ _ _ _ hlt hF hq a))
    · refine br_f (by decide) (br_f ?_ ?_)
      · rw [cw_s1 hN.1]
        exact cw_ne (by omega) (by omega) (by omega)
      · refine br_f (by decide) (nm_r (nI_1 d) ⟨vp_in_nI (by omega) (by omega), nm_r (e' := upd (upd tr d (nI (v + 1))) (d + 1) 0) (by rw [nI_clamp (by omega)]) (nm_r (nI_1 ρ) ?_)⟩)
        rw [← hf]
        refine sub hk (ρ + 1) _ _ _ _ _ _ _ _ hG2 hI2 pk_us hq (by omega) (fun ρ' fo' nu' al' an' dg2 tr2 rs2 cs2 g1 g2 g3 g4 => ?_)
        rw [pk_m1]
        refine K ρ' _ _ _ _ _ _ _ _ (by omega) (hback _ _ _ g2) (fun e he => ?_) ?_ g4
        · rw [g3 e (by omega), pk_un (by omega)]
          exact htr e he
        · rw [g3 d (by omega), pk_un (by omega), pk_us]
  · refine br_t rfl (br_t rfl (nm_r (nI_1 ρ) ?_))
    rw [← hf]
    refine K (ρ + 1) _ _ _ _ _ _ _ _ (by omega) hI htr pk_us ?_
    rw [hend]
    refine cw_skip hQZ (2 ^ k) htop (fun x hx hF => hpc ?_) hq
    exact (cw_PCc hC hdN (fun e he => cw_agr0 (by omega) hx)).mp (hF d hdN)
theorem cx_node {post : SX → Prop} {stop bound : Int32} {R C : Nat} {Q : Nat → Int32 → Int32 → Int32 → Int32 → Prop} {Z : Int32 → Int32 → Int32 → Int32 → Prop}
    (hrc : cw_RC R C) (hro : ∀ e, e < R * C → a_rowOf e = nI (e / C) ∧ a_columnOf e = nI (e % C))
    (hQZ : cw_QZ (R * C) (fun n => ∀ e, e < R * C → cw_PC R C a_pins a_lineFirst a_lineZeros a_lineOnes a_lineFollow a_back n e) stop bound Q Z)
    (hZ : ∀ (fo nu al an : Int32) (dg tr rs cs : Nat → Int32), Z fo nu al an → post (nI R, nI C, f_lines, nI (R * C), f_height, f_places, f_ready, fo, nu, al, an, a_rowOf, a_columnOf, a_pins, a_low, a_first, a_last, a_empty, a_kind, a_follow, a_turned, a_lineFirst, a_lineLast, a_lineEmpty, a_lineZeros, a_lineOnes, a_lineFollow, a_back, dg, tr, rs, cs)) :
    ∀ (k d m ρ : Nat) (fo nu al an : Int32) (dg tr rs cs : Nat → Int32), d + (k + 1) = R * C → (m + 1) * 2 ^ (k + 1) ≤ 2 ^ (R * C) → (∀ e, e < d → cw_PC R C a_pins a_lineFirst a_lineZeros a_lineOnes a_lineFollow a_back (m * 2 ^ (k + 1)) e) → cw_SI R C a_lineFirst a_lineZeros a_lineOnes a_lineFollow a_back d (m * 2 ^ (k + 1)) dg rs cs → tr d = 0 → Q (m * 2 ^ (k + 1)) fo nu al an → ρ + (3 * 2 ^ (k + 1) - 3) ≤ 20000 →
      (∀ (ρ' : Nat) (fo' nu' al' an' : Int32) (dg' tr' rs' cs' : Nat → Int32), ρ' ≤ ρ + (3 * 2 ^ (k + 1) - 3) → cw_SI R C a_lineFirst a_lineZeros a_lineOnes a_lineFollow a_back d (m * 2 ^ (k + 1)) dg' rs' cs' → (∀ e, e < d → tr' e = tr e) → Q ((m + 1) * 2 ^ (k + 1)) fo' nu' al' an' → wX_scan_49 post stop bound (20001 - ρ') (nI d + (-1)) 0 (nI ρ') (nI R) (nI C) f_lines (nI (R * C)) f_height f_places f_ready fo' nu' al' an' a_rowOf a_columnOf a_pins a_low a_first a_last a_empty a_kind a_follow a_turned a_lineFirst a_lineLast a_lineEmpty a_lineZeros a_lineOnes a_lineFollow a_back dg' tr' rs' cs') →
      wX_scan_49 post stop bound (20001 - ρ) (nI d) 0 (nI ρ) (nI R) (nI C) f_lines (nI (R * C)) f_height f_places f_ready fo nu al an a_rowOf a_columnOf a_pins a_low a_first a_last a_empty a_kind a_follow a_turned a_lineFirst a_lineLast a_lineEmpty a_lineZeros a_lineOnes a_lineFollow a_back dg tr rs cs := by
  intro k
  induction k with
  | zero =>
    intro d m ρ fo nu al an dg tr rs cs hdk hm hG hI ht hq hρ K
    have hN := cw_N12 hrc
    have e0 : (2 * m + 0) * 2 ^ 0 = m * 2 ^ (0 + 1) := by omega
    have e2 : (2 * m + 1 + 1) * 2 ^ 0 = (m + 1) * 2 ^ (0 + 1) := by omega
    refine cx_try (v := 0) hrc hro hdk (by omega) hm hQZ hZ (fun h => absurd h (by omega)) ρ fo nu al an dg tr rs cs hG hI ht (by rw [e0]; exact hq) (by omega) (fun ρ1 fo1 nu1 al1 an1 dg1 tr1 rs1 cs1 a1 a2 a3 a4 a5 => ?_)
    refine cx_try (v := 1) hrc hro hdk (by omega) hm hQZ hZ (fun h => absurd h (by omega)) ρ1 fo1 nu1 al1 an1 dg1 tr1 rs1 cs1 hG a2 a4 a5 (by omega) (fun ρ2 fo2 nu2 al2 an2 dg2 tr2 rs2 cs2 b1 b2 b3 b4 b5 => ?_)
    rw [e2] at b5
    have hd12 : vp_in (nI d) 12 := vp_in_nI (by omega) (by omega)
    rw [show 20001 - ρ2 = (20001 - (ρ2 + 1)) + 1 from by omega]
    obtain ⟨f, hf⟩ : ∃ f, 20001 - (ρ2 + 1) = f := ⟨_, rfl⟩
    rw [hf]
    refine br_f (nI_ge (b := 20000) (by omega) (by omega)) (br_f (nI_pos (by omega)) (br_t rfl ⟨hd12, nm_r (e' := nI 2) (by rw [nI_clamp (by omega), b4]) (br_t rfl (nm_e (nm_r (nI_1 ρ2) ?_)))⟩))
    rw [← hf]
    exact K (ρ2 + 1) _ _ _ _ _ _ _ _ (by omega) b2 (fun e he => (b3 e he).trans (a3 e he)) b5
  | succ k ih =>
    intro d m ρ fo nu al an dg tr rs cs hdk hm hG hI ht hq hρ K
    have hN := cw_N12 hrc
    have hP := Nat.two_pow_pos k
    have p1 : 2 ^ (k + 1) = 2 ^ k * 2 := Nat.pow_succ _ _
    have p2 : 2 ^ (k + 1 + 1) = 2 ^ (k + 1) * 2 := Nat.pow_succ _ _
    have e0 : (2 * m + 0) * 2 ^ (k + 1) = m * 2 ^ (k + 1 + 1) := by rw [cw_ch2, ← Nat.pow_succ, Nat.zero_mul, Nat.add_zero]
    have e2 : (2 * m + 1 + 1) * 2 ^ (k + 1) = (m + 1) * 2 ^ (k + 1 + 1) := by
      rw [show 2 * m + 1 + 1 = 2 * (m + 1) + 0 from by omega, cw_ch2, ← Nat.pow_succ, Nat.zero_mul, Nat.add_zero]
    have sub : ∀ v, v < 2 → (2 * m + v + 1) * 2 ^ (k + 1) ≤ 2 ^ (R * C) := by
      intro v hv
      refine Nat.le_trans ?_ hm
      rw [← e2]
      exact Nat.mul_le_mul_right _ (by omega)
    refine cx_try (v := 0) hrc hro hdk (by omega) hm hQZ hZ (fun _ ρ fo nu al an dg tr rs cs c1 c2 c3 c4 c5 c6 => ih (d + 1) (2 * m + 0) ρ fo nu al an dg tr rs cs (by omega) (sub 0 (by omega)) c1 c2 c3 c4 c5 c6) ρ fo nu al an dg tr rs cs hG hI ht (by rw [e0]; exact hq) (by omega) (fun ρ1 fo1 nu1 al1 an1 dg1 tr1 rs1 cs1 a1 a2 a3 a4 a5 => ?_)
    refine cx_try (v := 1) hrc hro hdk (by omega) hm hQZ hZ (fun _ ρ fo nu al an dg tr rs cs c1 c2 c3 c4 c5 c6 => ih (d + 1) (2 * m + 1) ρ fo nu al an dg tr rs cs (by omega) (sub 1 (by omega)) c1 c2 c3 c4 c5 c6) ρ1 fo1 nu1 al1 an1 dg1 tr1 rs1 cs1 hG a2 a4 a5 (by omega) (fun ρ2 fo2 nu2 al2 an2 dg2 tr2 rs2 cs2 b1 b2 b3 b4 b5 => ?_)
    rw [e2] at b5
    have hd12 : vp_in (nI d) 12 := vp_in_nI (by omega) (by omega)
    rw [show 20001 - ρ2 = (20001 - (ρ2 + 1)) + 1 from by omega]
    obtain ⟨f, hf⟩ : ∃ f, 20001 - (ρ2 + 1) = f := ⟨_, rfl⟩
    rw [hf]
    refine br_f (nI_ge (b := 20000) (by omega) (by omega)) (br_f (nI_pos (by omega)) (br_t rfl ⟨hd12, nm_r (e' := nI 2) (by rw [nI_clamp (by omega), b4]) (br_t rfl (nm_e (nm_r (nI_1 ρ2) ?_)))⟩))
    rw [← hf]
    exact K (ρ2 + 1) _ _ _ _ _ _ _ _ (by omega) b2 (fun e he => (b3 e he).trans (a3 e he)) b5
theorem cx_scan {post : SX → Prop} {stop bound : Int32} {R C : Nat} {yp li : Nat → Int32} {Q : Nat → Int32 → Int32 → Int32 → Int32 → Prop} {Z : Int32 → Int32 → Int32 → Int32 → Prop}
    (hrc : cw_RC R C) (hro : ∀ e, e < R * C → a_rowOf e = nI (e / C) ∧ a_columnOf e = nI (e % C))
    (hr : f_ready = 0 ∨ cw_BK R C a_pins a_lineLast a_lineZeros a_lineOnes a_lineFollow a_back)
    (hL : cw_LS R C a_lineFirst a_lineLast a_lineZeros a_lineOnes a_lineFollow li) (hP : cw_PN R C a_pins yp) (hs : 0 < stop)
    (hQZ : cw_QZ (R * C) (cw_FY R C yp li) stop bound Q Z) (hq0 : Q 0 0 (-1) 4095 0) (hend : ∀ fo nu al an, Q (2 ^ (R * C)) fo nu al an → Z fo nu al an)
    (H : ∀ (rd : Int32) (bk : Nat → Int32) (fo nu al an : Int32) (dg tr rs cs : Nat → Int32), cw_BK R C a_pins a_lineLast a_lineZeros a_lineOnes a_lineFollow bk → Z fo nu al an → post (nI R, nI C, nI (R + C), nI (R * C), f_height, f_places, rd, fo, nu, al, an, a_rowOf, a_columnOf, a_pins, a_low, a_first, a_last, a_empty, a_kind, a_follow, a_turned, a_lineFirst, a_lineLast, a_lineEmpty, a_lineZeros, a_lineOnes, a_lineFollow, bk, dg, tr, rs, cs)) :
    wpX_scan post (nI R, nI C, nI (R + C), nI (R * C), f_height, f_places, f_ready, f_found, f_number, f_allOnes, f_anyOnes, a_rowOf, a_columnOf, a_pins, a_low, a_first, a_last, a_empty, a_kind, a_follow, a_turned, a_lineFirst, a_lineLast, a_lineEmpty, a_lineZeros, a_lineOnes, a_lineFollow, a_back, a_digit, a_tried, a_rowSet, a_columnSet) stop bound := by
  have hN := cw_N12 hrc
  have h2 := cw_2N hrc
  unfold wpX_scan
  dsimp only
  refine cx_prepare hrc hr (fun rd bk hB => ?_)
  refine nm_e (br_t hs ⟨20001 - 0, ?_⟩)
  have eF : (fun n => ∀ e, e < R * C → cw_PC R C a_pins a_lineFirst a_lineZeros a_lineOnes a_lineFollow bk n e) = cw_FY R C yp li := funext (fun n => propext (cw_GDfits hrc hL hB hP))
  obtain ⟨k, hk⟩ : ∃ k, R * C = k + 1 := ⟨R * C - 1, by omega⟩
  have e1 : (0 + 1) * 2 ^ (k + 1) = 2 ^ (R * C) := by rw [hk, Nat.zero_add, Nat.one_mul]
  refine cx_node (post := post) (Q := Q) (Z := Z) hrc hro (by rw [eF]; exact hQZ) (fun fo nu al an dg tr rs cs hz => H rd bk fo nu al an dg tr rs cs hB hz) k 0 0 0 _ _ _ _ _ _ _ _ (by omega) (Nat.le_of_eq e1) (fun e he => absurd he (Nat.not_lt_zero _)) (fun e he => absurd he (Nat.not_lt_zero _)) pk_us (by rw [Nat.zero_mul]; exact hq0) (by rw [← hk]; omega) (fun ρ' fo' nu' al' an' dg' tr' rs' cs' a1 a2 a3 a4 => ?_)
  rw [e1] at a4
  rw [← hk] at a1
  obtain ⟨f, hf⟩ : ∃ f, 20001 - ρ' = f + 1 := ⟨20000 - ρ', by omega⟩
  rw [hf]
  have hp := H rd bk fo' nu' al' an' dg' tr' rs' cs' hB (hend _ _ _ _ a4)
  exact br_c (fun _ => hp) (fun _ => br_t (by decide) hp)
end
end
section
/-! ===== the component: words of a line ===== -/
section
variable {f_rows f_columns f_lines f_cells f_height f_places f_ready f_found f_number f_allOnes f_anyOnes : Int32} {a_rowOf a_columnOf a_pins a_low a_first a_last a_empty a_kind a_follow a_turned a_lineFirst a_lineLast a_lineEmpty a_lineZeros a_lineOnes a_lineFollow a_back a_digit a_tried a_rowSet a_columnSet : Nat → Int32}
theorem cx_spells {post : Int32 → Prop} {R C l b : Nat} {P : Nat → Prop} (hrc : cw_RC R C) (hl : l < R + C) (hb : b < 2 ^ cw_ln R C l)
    (hP : ∀ t, t < cw_ln R C l → (P t ↔ a_pins (cw_cl R C l t) = 2 ∨ a_pins (cw_cl R C l t) = nI (b / 2 ^ (cw_ln R C l - 1 - t) % 2)))
    (H1 : (∀ t, t < cw_ln R C l → P t) → (∃ q, cw_SL a_lineFirst a_lineZeros a_lineOnes a_lineFollow a_back l (fun t => b / 2 ^ (cw_ln R C l - 1 - t) % 2) (cw_ln R C l) q) → post 1)
    (H0 : ¬ ((∀ t, t < cw_ln R C l → P t) ∧ ∃ q, cw_SL a_lineFirst a_lineZeros a_lineOnes a_lineFollow a_back l (fun t => b / 2 ^ (cw_ln R C l - 1 - t) % 2) (cw_ln R C l) q) → post 0) :
    wpX_spells post (nI R, nI C, f_lines, f_cells, f_height, f_places, f_ready, f_found, f_number, f_allOnes, f_anyOnes, a_rowOf, a_columnOf, a_pins, a_low, a_first, a_last, a_empty, a_kind, a_follow, a_turned, a_lineFirst, a_lineLast, a_lineEmpty, a_lineZeros, a_lineOnes, a_lineFollow, a_back, a_digit, a_tried, a_rowSet, a_columnSet) (nI l) (nI (cw_ln R C l)) (nI b) := by
  have hln := cw_ln4 hrc l
  have h16 := cw_16 hln.2
  have hN := cw_N12 hrc
  have hR := hrc
  obtain ⟨h1, h2, h3, h4⟩ := hR
  show ∃ n8 : Nat, wX_spells_8 post (nI l) (nI (cw_ln R C l)) (nI b) (nI R) (nI C) f_lines f_cells f_height f_places f_ready f_found f_number f_allOnes f_anyOnes a_rowOf a_columnOf a_pins a_low a_first a_last a_empty a_kind a_follow a_turned a_lineFirst a_lineLast a_lineEmpty a_lineZeros a_lineOnes a_lineFollow a_back a_digit a_tried a_rowSet a_columnSet n8 256 0
  refine loop_0 (fun k t s => wX_spells_8 post (nI l) (nI (cw_ln R C l)) (nI b) (nI R) (nI C) f_lines f_cells f_height f_places f_ready f_found f_number f_allOnes f_anyOnes a_rowOf a_columnOf a_pins a_low a_first a_last a_empty a_kind a_follow a_turned a_lineFirst a_lineLast a_lineEmpty a_lineZeros a_lineOnes a_lineFollow a_back a_digit a_tried a_rowSet a_columnSet k s (nI t)) (fun t s => (∀ i, i < t → P i) ∧ ∀ p, (p < 9 ∨ 1 ≤ t) → (bt s p = true ↔ cw_SL a_lineFirst a_lineZeros a_lineOnes a_lineFollow a_back l (fun t => b / 2 ^ (cw_ln R C l - 1 - t) % 2) t p)) (cw_ln R C l) 256 ⟨fun i h => absurd h (Nat.not_lt_zero _), fun p _ => ?_⟩ ?_ ?_
  · rw [cw_256, decide_eq_true_iff]
    exact Iff.rfl
  · intro k s ⟨hI1, hI2⟩
    refine br_t (nI_le (Nat.le_refl _) (by omega)) (br_c (fun z => H0 (fun ⟨_, q, hq⟩ => ?_)) (fun z => ?_))
    · have y := (hI2 q (Or.inr hln.1)).mpr hq
      rw [z] at y
      exact cw_0T y
    · obtain ⟨q, hq⟩ := cw_nz.mp z
      exact H1 hI1 ⟨q, (hI2 q (Or.inr hln.1)).mp hq⟩
  · intro k t s ht ⟨hI1, hI2⟩ K
    have hc := cw_clN hl ht
    have hv : b / 2 ^ (cw_ln R C l - 1 - t) % 2 < 2 := Nat.mod_lt _ (by decide)
    have J55 : P t → wX_spells_55 post (wX_spells_8 post (nI l) (nI (cw_ln R C l)) (nI b) (nI R) (nI C) f_lines f_cells f_height f_places f_ready f_found f_number f_allOnes f_anyOnes a_rowOf a_columnOf a_pins a_low a_first a_last a_empty a_kind a_follow a_turned a_lineFirst a_lineLast a_lineEmpty a_lineZeros a_lineOnes a_lineFollow a_back a_digit a_tried a_rowSet a_columnSet k) (nI l) (nI (cw_ln R C l)) (nI b) s (nI t) (nI (b / 2 ^ (cw_ln R C l - 1 - t) % 2)) (nI R) (nI C) f_lines f_cells f_height f_places f_ready f_found f_number f_allOnes f_anyOnes a_rowOf a_columnOf a_pins a_low a_first a_last a_empty a_kind a_follow a_turned a_lineFirst a_lineLast a_lineEmpty a_lineZeros a_lineOnes a_lineFollow a_back a_digit a_tried a_rowSet a_columnSet := by
      intro hpt
      have ex : nI l * 5 + nI t + 1 = nI (l * 5 + (t + 1)) := by
        show nI l * nI 5 + nI t + nI 1 = _
        rw [pk_mul, nI_add, nI_add]
        rfl
      unfold wX_spells_55
      rw [ex, nI_clamp (n := l * 5 + (t + 1)) (by omega)]
      refine cx_step (by omega) hv (fun w hw => ⟨vp_in_nI (by omega) (by omega), nm_e (nm_r (nI_1 t) (K _ ⟨lt_s (p := P) hI1 hpt, fun p _ => ?_⟩))⟩)
      exact cw_adv (g := fun t => b / 2 ^ (cw_ln R C l - 1 - t) % 2) (bk := a_back) rfl (fun p hp => hI2 p (Or.inl hp)) hw p
    refine br_f (nI_ge ht (by omega)) (nm_r (e' := nI (b / 2 ^ (cw_ln R C l - 1 - t) % 2)) ?_ (cx_cellOf hrc hl ?_))
    · rw [cw_s1 hln.1, pk_sub (by omega), cw_dg (by omega) (by omega)]
    · refine ⟨vp_in_nI (by omega) (by omega), nm_r (e' := a_pins (cw_cl R C l t)) (by rw [nI_clamp (by omega)]) ?_⟩
      exact br_c (fun a => J55 ((hP t ht).mpr (Or.inl a))) (fun a => br_c (fun c => J55 ((hP t ht).mpr (Or.inr c))) (fun c => H0 (fun ⟨g, _⟩ => ((hP t ht).mp (g t ht)).elim a c)))
theorem cx_lineWords {post : Int32 → SX → Prop} {R C l : Nat} {yp li : Nat → Int32} (hrc : cw_RC R C) (hl : l < R + C)
    (hr : f_ready = 0 ∨ cw_BK R C a_pins a_lineLast a_lineZeros a_lineOnes a_lineFollow a_back)
    (hL : cw_LS R C a_lineFirst a_lineLast a_lineZeros a_lineOnes a_lineFollow li) (hPN : cw_PN R C a_pins yp)
    (H : ∀ (rd : Int32) (bk : Nat → Int32), cw_BK R C a_pins a_lineLast a_lineZeros a_lineOnes a_lineFollow bk → post (nI (cw_cn (cw_WY R C yp li l) (2 ^ cw_ln R C l))) (nI R, nI C, nI (R + C), f_cells, f_height, f_places, rd, f_found, f_number, f_allOnes, f_anyOnes, a_rowOf, a_columnOf, a_pins, a_low, a_first, a_last, a_empty, a_kind, a_follow, a_turned, a_lineFirst, a_lineLast, a_lineEmpty, a_lineZeros, a_lineOnes, a_lineFollow, bk, a_digit, a_tried, a_rowSet, a_columnSet)) :
    wpX_lineWords post (nI R, nI C, nI (R + C), f_cells, f_height, f_places, f_ready, f_found, f_number, f_allOnes, f_anyOnes, a_rowOf, a_columnOf, a_pins, a_low, a_first, a_last, a_empty, a_kind, a_follow, a_turned, a_lineFirst, a_lineLast, a_lineEmpty, a_lineZeros, a_lineOnes, a_lineFollow, a_back, a_digit, a_tried, a_rowSet, a_columnSet) (nI l) := by
  have hln := cw_ln4 hrc l
  have h16 := cw_16 hln.2
  have hR := hrc
  obtain ⟨h1, h2, h3, h4⟩ := hR
  unfold wpX_lineWords
  dsimp only
  refine br_f (nI_pos (by omega)) (br_t (nI_lt hl (by omega)) (cx_prepare hrc hr (fun rd bk hB => ?_)))
  refine cx_lineLength hrc hl ?_
  have hpin : ∀ i, i < cw_ln R C l → cw_yq R yp l i = a_pins (cw_cl R C l i) := by
    intro i hi
    unfold cw_yq
    by_cases z : l < R
    · rw [if_pos z, cw_clr z]
      rw [cw_lnr z] at hi
      exact (hPN l i z hi).symm
    · rw [if_neg z, cw_clc z]
      rw [cw_lnc z] at hi
      rw [show i * 4 + l - R = i * 4 + (l - R) from by omega]
      exact (hPN i (l - R) hi (by omega)).symm
  have key : ∀ b, b < 2 ^ cw_ln R C l → (∀ i, i < cw_ln R C l → cw_okw R C yp l b i) → ((∃ q, cw_SL a_lineFirst a_lineZeros a_lineOnes a_lineFollow bk l (fun t => b / 2 ^ (cw_ln R C l - 1 - t) % 2) (cw_ln R C l) q) ↔ bt (li l) (2 ^ cw_ln R C l - 1 + b) = true) := by
    intro b hb hok
    rw [(hL l hl).2 _ b hln.1 hln.2 hb, cw_wdls]
    refine cw_SRac (hL l hl).1 (hB l hl) hln.1 (fun t => Nat.mod_lt _ (by decide)) (fun t ht => ?_)
    have z := hok t ht
    unfold cw_okw at z
    rw [hpin t ht] at z
    exact z
  refine loop_0 (fun k b s => wX_lineWords_29 post (nI l) (nI (cw_ln R C l)) (nI R) (nI C) (nI (R + C)) f_cells f_height f_places rd f_found f_number f_allOnes f_anyOnes a_rowOf a_columnOf a_pins a_low a_first a_last a_empty a_kind a_follow a_turned a_lineFirst a_lineLast a_lineEmpty a_lineZeros a_lineOnes a_lineFollow bk a_digit a_tried a_rowSet a_columnSet k s (nI b)) (fun b s => s = nI (cw_cn (cw_WY R C yp li l) b)) (2 ^ cw_ln R C l) 0 rfl ?_ ?_
  · intro k s hI
    subst hI
    refine br_t ?_ (H rd bk hB)
    rw [cw_pw (by omega)]
    exact nI_le (Nat.le_refl _) (by omega)
  · intro k b s hb hI K
    subst hI
    refine br_f ?_ (cx_spells (P := cw_okw R C yp l b) hrc hl hb (fun t ht => ?_) (fun a c => ?_) (fun a => ?_))
    · rw [cw_pw (by omega)]
      exact nI_ge hb (by omega)
    · unfold cw_okw
      rw [hpin t ht]
    · exact br_f (by decide) (nm_r (nI_1 _) (nm_r (nI_1 b) (K _ (by rw [cw_cnT (P := cw_WY R C yp li l) ⟨(key b hb a).mp c, a⟩]))))
    · exact br_t rfl (nm_r (nI_1 b) (K _ (by rw [cw_cnF (P := cw_WY R C yp li l) (fun t => a ⟨t.2, (key b hb t.2).mpr t.1⟩)])))
end
end
section
/-! ===== the entries of the stack ===== -/
def cw_KK (kind : Nat → Int32) (q v : Nat) : Prop := ¬ kind q = (if v = 0 then 1 else 0)
def cw_FF (fol : Nat → Int32) (p q : Nat) : Prop := bt (fol p) q = true
def cw_BB (x : Int32) (p : Nat) : Prop := bt x p = true
def cw_IL (fi la em : Int32) (kind fol : Nat → Int32) : List Nat → Prop := cw_lg (cw_KK kind) (cw_FF fol) (cw_BB fi) (cw_BB la) (¬ em = 0)
def cw_IR (lo hi : Nat) (fi la : Int32) (fol : Nat → Int32) : Prop := (∀ p, bt fi p = true → lo ≤ p ∧ p < hi) ∧ (∀ p, bt la p = true → lo ≤ p ∧ p < hi) ∧ (∀ p q, lo ≤ p → p < hi → bt (fol p) q = true → lo ≤ q ∧ q < hi)
def cw_IT (lo hi : Nat) (fi la em : Int32) (kind fol : Nat → Int32) (m : Int32) : Prop := cw_IR lo hi fi la fol ∧ ∀ len bits, len ≤ 4 → bits < 2 ^ len → (bt m (2 ^ len - 1 + bits) = true ↔ cw_IL fi la em kind fol (cw_wd len bits))
theorem cw_ITk {lo hi : Nat} {fi la em m : Int32} {kind fol kind' fol' : Nat → Int32} (h : cw_IT lo hi fi la em kind fol m) (hk : ∀ p, lo ≤ p → p < hi → kind' p = kind p ∧ ∀ q, bt (fol' p) q = true ↔ bt (fol p) q = true) : cw_IT lo hi fi la em kind' fol' m := by
  obtain ⟨⟨r1, r2, r3⟩, hm⟩ := h
  refine ⟨⟨r1, r2, fun p q a b c => r3 p q a b (((hk p a b).2 q).mp c)⟩, fun len bits a b => ?_⟩
  rw [hm len bits a b]
  refine cw_conL (fun p => lo ≤ p ∧ p < hi) (fun _ _ => Iff.rfl) (fun p q hp hq => r3 p q hp.1 hp.2 hq) (fun p q hp => ((hk p hp.1 hp.2).2 q).symm) (fun q v hq => ?_) (fun _ => Iff.rfl) r1 Iff.rfl _
  unfold cw_KK
  rw [(hk q hq.1 hq.2).1]
theorem cw_ITunit (lo : Nat) (kind fol : Nat → Int32) : cw_IT lo lo 0 0 (vp_nar .boolean 1) kind fol 1 := by
  refine ⟨⟨fun p h => absurd h cw_0T, fun p h => absurd h cw_0T, fun p q a b => absurd a (by omega)⟩, fun len bits a b => ?_⟩
  rw [cw_oneA, decide_eq_true_iff]
  cases len with
  | zero =>
    have : bits = 0 := by rw [Nat.pow_zero] at b; omega
    subst this
    exact ⟨fun _ => cw_nb1, fun _ => rfl⟩
  | succ len =>
    have h1 := Nat.two_pow_pos len
    rw [Nat.pow_succ]
    constructor
    · intro z; omega
    · intro ⟨q, z, _⟩
      exact absurd z cw_0T
theorem cw_mk2 : ∀ i, i < 31 → (bt 2 i = decide (i = 1)) ∧ (bt 4 i = decide (i = 2)) ∧ (bt 6 i = decide (i = 1 ∨ i = 2)) := by decide +kernel
theorem cw_ITletter {lo : Nat} {m e : Int32} {kind fol : Nat → Int32} (hlo : lo < 8) (h0 : e = 0) (hf : ∀ q, bt (fol lo) q = false) (hm : ∀ i, i < 31 → (bt m i = true ↔ (i = 1 ∧ ¬ kind lo = 1) ∨ (i = 2 ∧ ¬ kind lo = 0))) : cw_IT lo (lo + 1) ((1 : Int32) <<< (nI lo &&& 31)) ((1 : Int32) <<< (nI lo &&& 31)) e kind fol m := by
  have hb : ∀ p, bt ((1 : Int32) <<< (nI lo &&& 31)) p = true ↔ p = lo := fun p => cw_bitT (by omega)
  refine ⟨⟨fun p h => ?_, fun p h => ?_, fun p q a b c => ?_⟩, fun len bits a b => ?_⟩
  · rw [(hb p).mp h]; omega
  · rw [(hb p).mp h]; omega
  · have : p = lo := by omega
    subst this
    rw [hf q] at c
    exact absurd c (by decide)
  · have h16 := cw_16 a
    rw [hm _ (by omega)]
    match len, a, b, h16 with
    | 0, _, b, _ =>
      rw [Nat.pow_zero] at b
      constructor
      · intro z; omega
      · intro z; exact absurd h0 z
    | 1, _, b, _ =>
      rw [Nat.pow_one] at b ⊢
      have hv : bits / 2 ^ 0 % 2 = bits := by rw [Nat.pow_zero, Nat.div_one]; omega
      show _ ↔ ∃ q, cw_BB _ q ∧ cw_KK kind q (bits / 2 ^ 0 % 2) ∧ cw_BB _ q
      rw [hv]
      unfold cw_KK
      constructor
      · rintro (⟨z, y⟩ | ⟨z, y⟩)
        · have : bits = 0 := by omega
          subst this
          exact ⟨lo, (hb lo).mpr rfl, y, (hb lo).mpr rfl⟩
        · have : bits = 1 := by omega
          subst this
          exact ⟨lo, (hb lo).mpr rfl, y, (hb lo).mpr rfl⟩
      · intro ⟨q, z, y, _⟩
        have e1 := (hb q).mp z
        subst e1
        by_cases e2 : bits = 0
        · subst e2; exact Or.inl ⟨rfl, y⟩
        · rw [if_neg e2] at y
          exact Or.inr ⟨by omega, y⟩
    | len + 2, _, b, h16 =>
      have h1 := Nat.two_pow_pos len
      have h2 : 2 ^ (len + 2) = 2 ^ len * 2 * 2 := by rw [Nat.pow_succ, Nat.pow_succ]
      constructor
      · intro z; omega
      · intro ⟨q, z, _, q2, y, _⟩
        have e1 := (hb q).mp z
        subst e1
        have y' : bt (fol q) q2 = true := y
        rw [hf q2] at y'
        exact absurd y' (by decide)
theorem cw_ITchm {lo mi hi : Nat} {f1 l1 f2 l2 : Int32} {fol : Nat → Int32} (h1 : cw_IR lo mi f1 l1 fol) (h2 : cw_IR mi hi f2 l2 fol) : cw_CH (fun p => lo ≤ p ∧ p < mi) (fun p => mi ≤ p ∧ p < hi) (cw_FF fol) (cw_BB f1) (cw_BB l1) (cw_BB f2) (cw_BB l2) :=
  ⟨fun p a b => by omega, h1.1, h1.2.1, h2.1, h2.2.1, fun p q a b => h1.2.2 p q a.1 a.2 b, fun p q a b => h2.2.2 p q a.1 a.2 b⟩
theorem cw_ITalt {lo mi hi : Nat} {f1 l1 e1 m1 f2 l2 e2 m2 f l e : Int32} {kind fol : Nat → Int32} (hlo : lo ≤ mi) (hhi : mi ≤ hi) (h1 : cw_IT lo mi f1 l1 e1 kind fol m1) (h2 : cw_IT mi hi f2 l2 e2 kind fol m2)
    (hf : ∀ q, bt f q = true ↔ bt f1 q = true ∨ bt f2 q = true) (hl : ∀ q, bt l q = true ↔ bt l1 q = true ∨ bt l2 q = true) (he : ¬ e = 0 ↔ ¬ e1 = 0 ∨ ¬ e2 = 0) : cw_IT lo hi f l e kind fol (m1 ||| m2) := by
  refine ⟨⟨fun p h => ?_, fun p h => ?_, fun p q a b c => ?_⟩, fun len bits a b => ?_⟩
  · rcases (hf p).mp h with z | z
    · have := h1.1.1 p z; omega
    · have := h2.1.1 p z; omega
  · rcases (hl p).mp h with z | z
    · have := h1.1.2.1 p z; omega
    · have := h2.1.2.1 p z; omega
  · by_cases z : p < mi
    · have := h1.1.2.2 p q a z c; omega
    · have := h2.1.2.2 p q (by omega) b c; omega
  · rw [cw_orT, h1.2 len bits a b, h2.2 len bits a b]
    unfold cw_IL
    rw [← cw_alt (cw_ITchm h1.1 h2.1), show cw_BB f = fun p => cw_BB f1 p ∨ cw_BB f2 p from funext (fun q => propext (hf q)), show cw_BB l = fun p => cw_BB l1 p ∨ cw_BB l2 p from funext (fun q => propext (hl q)), propext he]
theorem cw_ITcatR {lo mi hi : Nat} {f1 l1 e1 m1 f2 l2 e2 m2 f l : Int32} {kind fol g : Nat → Int32} (hlo : lo ≤ mi) (hhi : mi ≤ hi) (h1 : cw_IT lo mi f1 l1 e1 kind fol m1) (h2 : cw_IT mi hi f2 l2 e2 kind fol m2)
    (hg : ∀ p q, bt (g p) q = true ↔ bt (fol p) q = true ∨ (bt l1 p = true ∧ bt f2 q = true)) (hf : ∀ q, bt f q = true ↔ bt f1 q = true ∨ (¬ e1 = 0 ∧ bt f2 q = true)) (hl : ∀ q, bt l q = true ↔ bt l2 q = true ∨ (¬ e2 = 0 ∧ bt l1 q = true)) : cw_IR lo hi f l g := by
  refine ⟨fun p h => ?_, fun p h => ?_, fun p q a b c => ?_⟩
  · rcases (hf p).mp h with z | z
    · have := h1.1.1 p z; omega
    · have := h2.1.1 p z.2; omega
  · rcases (hl p).mp h with z | z
    · have := h2.1.2.1 p z; omega
    · have := h1.1.2.1 p z.2; omega
  · rcases (hg p q).mp c with z | z
    · by_cases y : p < mi
      · have := h1.1.2.2 p q a y z; omega
      · have := h2.1.2.2 p q (by omega) b z; omega
    · have := h2.1.1 q z.2; omega
theorem cw_ITcatT {lo mi hi : Nat} {f1 l1 e1 m1 f2 l2 e2 m2 f l e : Int32} {kind fol g : Nat → Int32} (h1 : cw_IT lo mi f1 l1 e1 kind fol m1) (h2 : cw_IT mi hi f2 l2 e2 kind fol m2)
    (hg : ∀ p q, bt (g p) q = true ↔ bt (fol p) q = true ∨ (bt l1 p = true ∧ bt f2 q = true)) (hf : ∀ q, bt f q = true ↔ bt f1 q = true ∨ (¬ e1 = 0 ∧ bt f2 q = true)) (hl : ∀ q, bt l q = true ↔ bt l2 q = true ∨ (¬ e2 = 0 ∧ bt l1 q = true)) (he : ¬ e = 0 ↔ ¬ e1 = 0 ∧ ¬ e2 = 0)
    (len bits : Nat) (a : len ≤ 4) (b : bits < 2 ^ len) : cw_IL f l e kind g (cw_wd len bits) ↔ cw_SP m1 m2 0 len bits := by
  unfold cw_IL
  rw [show cw_BB f = fun p => cw_BB f1 p ∨ (¬ e1 = 0 ∧ cw_BB f2 p) from funext (fun q => propext (hf q)), show cw_BB l = fun p => cw_BB l2 p ∨ (¬ e2 = 0 ∧ cw_BB l1 p) from funext (fun q => propext (hl q)), propext he, cw_cat (Fo' := cw_FF g) (cw_ITchm h1.1 h2.1) hg, cw_wdX]
  constructor
  · intro ⟨p, hp, c, d⟩
    exact ⟨p, Nat.zero_le _, hp, (h1.2 p _ (by omega) (cw_dlt hp b)).mpr c, (h2.2 (len - p) _ (by omega) (Nat.mod_lt _ (Nat.two_pow_pos _))).mpr d⟩
  · intro ⟨p, _, hp, c, d⟩
    exact ⟨p, hp, (h1.2 p _ (by omega) (cw_dlt hp b)).mp c, (h2.2 (len - p) _ (by omega) (Nat.mod_lt _ (Nat.two_pow_pos _))).mp d⟩
theorem cw_ITstarR {lo hi : Nat} {f l e m : Int32} {kind fol g : Nat → Int32} (h : cw_IT lo hi f l e kind fol m) (hg : ∀ p q, bt (g p) q = true ↔ bt (fol p) q = true ∨ (bt l p = true ∧ bt f q = true)) : cw_IR lo hi f l g := by
  refine ⟨h.1.1, h.1.2.1, fun p q a b c => ?_⟩
  rcases (hg p q).mp c with z | z
  · exact h.1.2.2 p q a b z
  · exact h.1.1 q z.2
theorem cw_ITstarT {lo hi : Nat} {f l e e' m : Int32} {kind fol g : Nat → Int32} (h : cw_IT lo hi f l e kind fol m) (hg : ∀ p q, bt (g p) q = true ↔ bt (fol p) q = true ∨ (bt l p = true ∧ bt f q = true)) (he : ¬ e' = 0)
    (len bits : Nat) (s : Int32) (h1 : 1 ≤ len) (a : len ≤ 4) (b : bits < 2 ^ len) (hs : cw_IV (fun len bits => cw_IL f l e' kind g (cw_wd len bits)) len bits s) : cw_IL f l e' kind g (cw_wd len bits) ↔ cw_SP m s 1 len bits := by
  have key : ∀ w, cw_IL f l e' kind g w ↔ cw_ch (cw_IL f l e kind fol) w := cw_star he hg
  have lt : ∀ p, 1 ≤ p → p ≤ len → 2 ^ (len - p) - 1 + bits % 2 ^ (len - p) < 2 ^ len - 1 + bits := by
    intro p p1 p2
    have x1 := Nat.mod_lt bits (Nat.two_pow_pos (len - p))
    have x2 := Nat.pow_le_pow_right (n := 2) (by decide) (show len - p + 1 ≤ len from by omega)
    have x3 := Nat.two_pow_pos (len - p)
    rw [Nat.pow_succ] at x2
    omega
  rw [key, cw_chS h1]
  constructor
  · intro ⟨p, p1, p2, c, d⟩
    exact ⟨p, p1, p2, (h.2 p _ (by omega) (cw_dlt p2 b)).mpr c, (hs (len - p) _ (by omega) (Nat.mod_lt _ (Nat.two_pow_pos _))).mpr ⟨lt p p1 p2, (key _).mpr d⟩⟩
  · intro ⟨p, p1, p2, c, d⟩
    exact ⟨p, p1, p2, (h.2 p _ (by omega) (cw_dlt p2 b)).mp c, (key _).mp ((hs (len - p) _ (by omega) (Nat.mod_lt _ (Nat.two_pow_pos _))).mp d).2⟩
theorem cw_ITrevR {lo hi : Nat} {f l e m : Int32} {kind fol g : Nat → Int32} (h : cw_IT lo hi f l e kind fol m) (hg : ∀ r q, lo ≤ r → r < hi → (bt (g r) q = true ↔ (lo ≤ q ∧ q < hi) ∧ bt (fol q) r = true)) : cw_IR lo hi l f g :=
  ⟨h.1.2.1, h.1.1, fun p q a b c => ((hg p q a b).mp c).1⟩
theorem cw_ITrevT {lo hi : Nat} {f l e m : Int32} {kind fol g : Nat → Int32} (h : cw_IT lo hi f l e kind fol m) (hg : ∀ r q, lo ≤ r → r < hi → (bt (g r) q = true ↔ (lo ≤ q ∧ q < hi) ∧ bt (fol q) r = true))
    (len bits : Nat) (a : len ≤ 4) (b : bits < 2 ^ len) : cw_IL l f e kind g (cw_wd len bits) ↔ bt m (2 ^ len - 1 + cw_mir len bits) = true := by
  rw [h.2 len _ a (cw_mirlt len bits), cw_mirw a]
  have hl : (cw_wd len bits).length ≤ 4 := by rw [cw_wdL]; exact a
  constructor
  · intro z
    exact cw_rev1 (P := fun p => lo ≤ p ∧ p < hi) id h.1.2.1 (fun p q x y => ((hg p q x.1 x.2).mp y).1) (fun p q x y => ((hg p q x.1 x.2).mp y).2) _ hl z
  · intro z
    have y := cw_rev1 (Fo' := cw_FF g) (e' := ¬ e = 0) (P := fun p => lo ≤ p ∧ p < hi) id h.1.1 (fun p q x y => h.1.2.2 p q x.1 x.2 y) (fun p q x y => (hg q p (h.1.2.2 p q x.1 x.2 y).1 (h.1.2.2 p q x.1 x.2 y).2).mpr ⟨x, y⟩) _ (by rw [List.length_reverse]; exact hl) z
    rw [List.reverse_reverse] at y
    exact y
/-! lines -/
theorem cw_LNset {lo hi : Nat} {f l e m ze on : Int32} {kind fol fo : Nat → Int32} (h8 : hi ≤ 8) (h : cw_IT lo hi f l e kind fol m)
    (hz : ∀ q, bt ze q = true ↔ q + lo < hi ∧ ¬ kind (q + lo) = 1) (ho : ∀ q, bt on q = true ↔ q + lo < hi ∧ ¬ kind (q + lo) = 0) (hf : ∀ q, q + lo < hi → fo q = fol (q + lo) >>> (nI lo &&& 31)) (hlo : lo ≤ hi) :
    cw_LN (f >>> (nI lo &&& 31)) (l >>> (nI lo &&& 31)) ze on fo m := by
  obtain ⟨⟨r1, r2, r3⟩, hm⟩ := h
  have nf : ∀ x : Int32, (∀ p, bt x p = true → lo ≤ p ∧ p < hi) → ∀ q, bt (x >>> (nI lo &&& 31)) q = bt x (lo + q) := by
    intro x hx q
    refine cw_shr (by omega) ?_ q
    cases z : bt x 31
    · rfl
    · have := hx 31 z
      omega
  have hK : ∀ q v, cw_KL ze on q v ↔ q + lo < hi ∧ cw_KK kind (q + lo) v := by
    intro q v
    unfold cw_KL cw_KK
    by_cases z : v = 0
    · rw [if_pos z, if_pos z]; exact hz q
    · rw [if_neg z, if_neg z]; exact ho q
  refine ⟨fun i hi8 => ⟨?_, ?_⟩, fun len bits h1 a b => ?_⟩
  · cases z : bt ze i
    · rfl
    · have := (hz i).mp z
      omega
  · cases z : bt on i
    · rfl
    · have := (ho i).mp z
      omega
  · have bis : ∀ w p p', (p = p' + lo ∧ p < hi) → (cw_ac (cw_KK kind) (cw_FF fol) (cw_BB l) w p ↔ cw_ac (cw_KL ze on) (cw_FX (f >>> (nI lo &&& 31)) fo) (fun p => bt (l >>> (nI lo &&& 31)) p = true) w p') := by
      have ff : ∀ p q, p + lo < hi → (cw_FX (f >>> (nI lo &&& 31)) fo p q ↔ bt (fol (p + lo)) (lo + q) = true) := by
        intro p q hp
        rw [cw_FXp (by omega), hf p hp, nf _ (fun x hx => r3 (p + lo) x (by omega) hp hx)]
      refine cw_bis (fun p p' => p = p' + lo ∧ p < hi) ?_ ?_ ?_
      · intro p p' ⟨e1, e2⟩
        show bt l p = true ↔ bt (l >>> (nI lo &&& 31)) p' = true
        rw [nf l r2, e1, Nat.add_comm]
      · intro p p' q v ⟨e1, e2⟩ c d
        subst e1
        have rq := r3 (p' + lo) q (by omega) e2 c
        have eq : q = (q - lo) + lo := by omega
        refine ⟨q - lo, ⟨eq, rq.2⟩, (ff p' (q - lo) e2).mpr ?_, (hK _ _).mpr ?_⟩
        · rw [show lo + (q - lo) = q from by omega]; exact c
        · rw [← eq]; exact ⟨rq.2, d⟩
      · intro p p' q' v ⟨e1, e2⟩ c d
        subst e1
        have d' := (hK q' v).mp d
        have c' := (ff p' q' e2).mp c
        rw [Nat.add_comm lo q'] at c'
        exact ⟨q' + lo, ⟨rfl, d'.1⟩, c', d'.2⟩
    rw [hm len bits a b]
    obtain ⟨n, rfl⟩ : ∃ n, len = n + 1 := ⟨len - 1, by omega⟩
    show (∃ q, cw_BB f q ∧ cw_KK kind q (bits / 2 ^ n % 2) ∧ cw_ac (cw_KK kind) (cw_FF fol) (cw_BB l) (cw_wd n bits) q) ↔ ∃ q, cw_FX (f >>> (nI lo &&& 31)) fo 8 q ∧ cw_KL ze on q (bits / 2 ^ n % 2) ∧ cw_ac (cw_KL ze on) (cw_FX (f >>> (nI lo &&& 31)) fo) (fun p => bt (l >>> (nI lo &&& 31)) p = true) (cw_wd n bits) q
    constructor
    · intro ⟨q, x, y, z⟩
      have rq := r1 q x
      have eq : q = (q - lo) + lo := by omega
      refine ⟨q - lo, ?_, (hK _ _).mpr ?_, (bis _ _ _ ⟨eq, rq.2⟩).mp z⟩
      · rw [cw_FX8, nf f r1, show lo + (q - lo) = q from by omega]; exact x
      · rw [← eq]; exact ⟨rq.2, y⟩
    · intro ⟨q, x, y, z⟩
      rw [cw_FX8, nf f r1, Nat.add_comm] at x
      have y' := (hK q _).mp y
      exact ⟨q + lo, x, y'.2, (bis _ _ _ ⟨rfl, y'.1⟩).mpr z⟩
theorem cw_all : ∀ i, i < 31 → bt 2147483647 i = true := by decide +kernel
theorem cw_LNall {fo : Nat → Int32} (h0 : fo 0 = 1) : cw_LN 1 1 1 1 fo 2147483647 := by
  refine ⟨fun i hi => ?_, fun len bits h1 a b => ?_⟩
  · rw [cw_oneA, decide_eq_false (by omega)]
    exact ⟨rfl, rfl⟩
  · have h16 := cw_16 a
    have k1 : ∀ v, cw_KL 1 1 0 v := by
      intro v
      unfold cw_KL
      by_cases z : v = 0
      · rw [if_pos z]; exact cw_oneA 0
      · rw [if_neg z]; exact cw_oneA 0
    have all : ∀ w, cw_ac (cw_KL 1 1) (cw_FX 1 fo) (fun p => bt 1 p = true) w 0 := by
      intro w
      induction w with
      | nil => exact cw_oneA 0
      | cons v w ih =>
        refine ⟨0, ?_, k1 v, ih⟩
        rw [cw_FXp (by omega), h0]
        exact cw_oneA 0
    obtain ⟨n, rfl⟩ : ∃ n, len = n + 1 := ⟨len - 1, by omega⟩
    exact ⟨fun _ => ⟨0, cw_oneA 0, k1 _, all _⟩, fun _ => cw_all _ (by omega)⟩
/-! the whole stack -/
def cw_ST (h : Nat) (lo : Nat → Nat) (low first last empty kind fol stack lc : Nat → Int32) : Prop := h ≤ 6 ∧ lo 0 = 0 ∧ lo h ≤ 8 ∧ ∀ i, i < h → lo i ≤ lo (i + 1) ∧ low i = nI (lo i) ∧ lc i = nI (lo (i + 1) - lo i) ∧ cw_IT (lo i) (lo (i + 1)) (first i) (last i) (empty i) kind fol (stack i)
theorem cw_STm {h : Nat} {lo : Nat → Nat} {low first last empty kind fol stack lc : Nat → Int32} (H : cw_ST h lo low first last empty kind fol stack lc) {i : Nat} : ∀ {j : Nat}, i ≤ j → j ≤ h → lo i ≤ lo j
  | 0, a, _ => by rw [Nat.le_zero.mp a]; exact Nat.le_refl _
  | j + 1, a, b => by
    by_cases z : i = j + 1
    · rw [z]; exact Nat.le_refl _
    · have h1 := cw_STm H (i := i) (j := j) (by omega) (by omega)
      have h2 := (H.2.2.2 j (by omega)).1
      omega
theorem cw_STx {h x hi : Nat} {lo : Nat → Nat} {low first last empty kind fol stack lc low' first' last' empty' kind' fol' stack' lc' : Nat → Int32} (H : cw_ST h lo low first last empty kind fol stack lc) (hx : x ≤ h) (hx5 : x < 6) (hhi : lo x ≤ hi) (h8 : hi ≤ 8)
    (hs : ∀ i, i < x → low' i = low i ∧ first' i = first i ∧ last' i = last i ∧ empty' i = empty i ∧ stack' i = stack i ∧ lc' i = lc i)
    (hk : ∀ p, p < lo x → kind' p = kind p ∧ ∀ q, bt (fol' p) q = true ↔ bt (fol p) q = true)
    (hl : low' x = nI (lo x)) (hc : lc' x = nI (hi - lo x)) (hit : cw_IT (lo x) hi (first' x) (last' x) (empty' x) kind' fol' (stack' x)) :
    cw_ST (x + 1) (fun i => if i = x + 1 then hi else lo i) low' first' last' empty' kind' fol' stack' lc' := by
  have em : ∀ i, i ≤ x → (fun i => if i = x + 1 then hi else lo i) i = lo i := fun i hi' => if_neg (by omega)
  have ex : (fun i => if i = x + 1 then hi else lo i) (x + 1) = hi := if_pos rfl
  refine ⟨by omega, ?_, ?_, fun i hi' => ?_⟩
  · rw [em 0 (by omega)]; exact H.2.1
  · rw [ex]; exact h8
  · rw [em i (by omega)]
    by_cases z : i = x
    · subst z
      rw [ex]
      exact ⟨hhi, hl, hc, hit⟩
    · rw [em (i + 1) (by omega)]
      obtain ⟨a1, a2, a3, a4⟩ := H.2.2.2 i (by omega)
      obtain ⟨b1, b2, b3, b4, b5, b6⟩ := hs i (by omega)
      rw [b1, b2, b3, b4, b5, b6]
      have m := cw_STm H (i := i + 1) (j := x) (by omega) hx
      exact ⟨a1, a2, a3, cw_ITk a4 (fun p _ hp => hk p (by omega))⟩
theorem cw_STpop {x : Nat} {lo : Nat → Nat} {low first last empty kind fol stack lc : Nat → Int32} (H : cw_ST (x + 1) lo low first last empty kind fol stack lc) : cw_ST x lo low first last empty kind fol stack lc := by
  have m := cw_STm H (i := x) (j := x + 1) (by omega) (by omega)
  exact ⟨by have := H.1; omega, H.2.1, by have := H.2.2.1; omega, fun i hi => H.2.2.2 i (by omega)⟩
end
section
/-! ===== the relation ===== -/
def cw_REL (f_rows f_columns f_lines f_cells f_height f_places f_ready f_found f_number f_allOnes f_anyOnes : Int32) (a_rowOf a_columnOf a_pins a_low a_first a_last a_empty a_kind a_follow a_turned a_lineFirst a_lineLast a_lineEmpty a_lineZeros a_lineOnes a_lineFollow a_back a_digit a_tried a_rowSet a_columnSet : Nat → Int32) (y_depth y_rows y_columns : Int32) (y_stack y_lc y_lines y_pins : Nat → Int32) : Prop := ∃ (R C h pl : Nat) (lo : Nat → Nat), cw_RC R C ∧ (f_rows = nI R ∧ f_columns = nI C ∧ f_lines = nI (R + C) ∧ f_cells = nI (R * C) ∧ f_height = nI h ∧ f_places = nI pl ∧ pl = lo h) ∧ (y_depth = nI h ∧ y_rows = nI R ∧ y_columns = nI C) ∧ (∀ e, e < R * C → a_rowOf e = nI (e / C) ∧ a_columnOf e = nI (e % C)) ∧ cw_PN R C a_pins y_pins ∧ cw_ST h lo a_low a_first a_last a_empty a_kind a_follow y_stack y_lc ∧ cw_LS R C a_lineFirst a_lineLast a_lineZeros a_lineOnes a_lineFollow y_lines ∧ (f_ready = 0 ∨ cw_BK R C a_pins a_lineLast a_lineZeros a_lineOnes a_lineFollow a_back)
/-- the relation at the head of a turn -/
def i_Rel (k : Nat) (u : SX) (v : SY) : Prop := match u, v with
  | (f_rows, f_columns, f_lines, f_cells, f_height, f_places, f_ready, f_found, f_number, f_allOnes, f_anyOnes, a_rowOf, a_columnOf, a_pins, a_low, a_first, a_last, a_empty, a_kind, a_follow, a_turned, a_lineFirst, a_lineLast, a_lineEmpty, a_lineZeros, a_lineOnes, a_lineFollow, a_back, a_digit, a_tried, a_rowSet, a_columnSet), (y_depth, y_rows, y_columns, y_stack, y_lc, y_lines, y_pins) => cw_REL f_rows f_columns f_lines f_cells f_height f_places f_ready f_found f_number f_allOnes f_anyOnes a_rowOf a_columnOf a_pins a_low a_first a_last a_empty a_kind a_follow a_turned a_lineFirst a_lineLast a_lineEmpty a_lineZeros a_lineOnes a_lineFollow a_back a_digit a_tried a_rowSet a_columnSet y_depth y_rows y_columns y_stack y_lc y_lines y_pins
theorem i_up {k : Nat} {u : SX} {v : SY} (h : i_Rel k u v) : i_Rel (k + 4) u v := h
theorem cw_in {k R C h pl : Nat} {lo : Nat → Nat} {f_ready f_found f_number f_allOnes f_anyOnes : Int32} {a_rowOf a_columnOf a_pins a_low a_first a_last a_empty a_kind a_follow a_turned a_lineFirst a_lineLast a_lineEmpty a_lineZeros a_lineOnes a_lineFollow a_back a_digit a_tried a_rowSet a_columnSet y_stack y_lc y_lines y_pins : Nat → Int32}
    (h1 : cw_RC R C) (h2 : pl = lo h) (h3 : (∀ e, e < R * C → a_rowOf e = nI (e / C) ∧ a_columnOf e = nI (e % C))) (h4 : cw_PN R C a_pins y_pins) (h5 : cw_ST h lo a_low a_first a_last a_empty a_kind a_follow y_stack y_lc) (h6 : cw_LS R C a_lineFirst a_lineLast a_lineZeros a_lineOnes a_lineFollow y_lines) (h7 : (f_ready = 0 ∨ cw_BK R C a_pins a_lineLast a_lineZeros a_lineOnes a_lineFollow a_back)) : i_Rel k (nI R, nI C, nI (R + C), nI (R * C), nI h, nI pl, f_ready, f_found, f_number, f_allOnes, f_anyOnes, a_rowOf, a_columnOf, a_pins, a_low, a_first, a_last, a_empty, a_kind, a_follow, a_turned, a_lineFirst, a_lineLast, a_lineEmpty, a_lineZeros, a_lineOnes, a_lineFollow, a_back, a_digit, a_tried, a_rowSet, a_columnSet) (nI h, nI R, nI C, y_stack, y_lc, y_lines, y_pins) :=
  ⟨R, C, h, pl, lo, h1, ⟨rfl, rfl, rfl, rfl, rfl, rfl, h2⟩, ⟨rfl, rfl, rfl⟩, h3, h4, h5, h6, h7⟩
theorem cw_el {k : Nat} {P : SX → SY → Prop} (H : ∀ (R C h pl : Nat) (lo : Nat → Nat) (f_ready f_found f_number f_allOnes f_anyOnes : Int32) (a_rowOf a_columnOf a_pins a_low a_first a_last a_empty a_kind a_follow a_turned a_lineFirst a_lineLast a_lineEmpty a_lineZeros a_lineOnes a_lineFollow a_back a_digit a_tried a_rowSet a_columnSet y_stack y_lc y_lines y_pins : Nat → Int32),
    cw_RC R C → pl = lo h → (∀ e, e < R * C → a_rowOf e = nI (e / C) ∧ a_columnOf e = nI (e % C)) → cw_PN R C a_pins y_pins → cw_ST h lo a_low a_first a_last a_empty a_kind a_follow y_stack y_lc → cw_LS R C a_lineFirst a_lineLast a_lineZeros a_lineOnes a_lineFollow y_lines → (f_ready = 0 ∨ cw_BK R C a_pins a_lineLast a_lineZeros a_lineOnes a_lineFollow a_back) → i_Rel k (nI R, nI C, nI (R + C), nI (R * C), nI h, nI pl, f_ready, f_found, f_number, f_allOnes, f_anyOnes, a_rowOf, a_columnOf, a_pins, a_low, a_first, a_last, a_empty, a_kind, a_follow, a_turned, a_lineFirst, a_lineLast, a_lineEmpty, a_lineZeros, a_lineOnes, a_lineFollow, a_back, a_digit, a_tried, a_rowSet, a_columnSet) (nI h, nI R, nI C, y_stack, y_lc, y_lines, y_pins) → P (nI R, nI C, nI (R + C), nI (R * C), nI h, nI pl, f_ready, f_found, f_number, f_allOnes, f_anyOnes, a_rowOf, a_columnOf, a_pins, a_low, a_first, a_last, a_empty, a_kind, a_follow, a_turned, a_lineFirst, a_lineLast, a_lineEmpty, a_lineZeros, a_lineOnes, a_lineFollow, a_back, a_digit, a_tried, a_rowSet, a_columnSet) (nI h, nI R, nI C, y_stack, y_lc, y_lines, y_pins)) {u : SX} {v : SY} (I : i_Rel k u v) : P u v := by
  obtain ⟨f_rows, f_columns, f_lines, f_cells, f_height, f_places, f_ready, f_found, f_number, f_allOnes, f_anyOnes, a_rowOf, a_columnOf, a_pins, a_low, a_first, a_last, a_empty, a_kind, a_follow, a_turned, a_lineFirst, a_lineLast, a_lineEmpty, a_lineZeros, a_lineOnes, a_lineFollow, a_back, a_digit, a_tried, a_rowSet, a_columnSet⟩ := u
  obtain ⟨y_depth, y_rows, y_columns, y_stack, y_lc, y_lines, y_pins⟩ := v
  have I0 := I
  obtain ⟨R, C, h, pl, lo, h1, ⟨rfl, rfl, rfl, rfl, rfl, rfl, h2⟩, ⟨rfl, rfl, rfl⟩, h3, h4, h5, h6, h7⟩ := I
  exact H R C h pl lo f_ready f_found f_number f_allOnes f_anyOnes a_rowOf a_columnOf a_pins a_low a_first a_last a_empty a_kind a_follow a_turned a_lineFirst a_lineLast a_lineEmpty a_lineZeros a_lineOnes a_lineFollow a_back a_digit a_tried a_rowSet a_columnSet y_stack y_lc y_lines y_pins h1 h2 h3 h4 h5 h6 h7 I0
/-! the reference's stack -/
section
variable {y_depth y_rows y_columns : Int32} {y_stack y_lc y_lines y_pins : Nat → Int32}
theorem cy_push {post : Int32 → SY → Prop} {h : Nat} {z c : Int32} (hh : h < 6) (H : post (nI (h + 1)) (nI (h + 1), y_rows, y_columns, upd y_stack h z, upd y_lc h c, y_lines, y_pins)) : wpY_push post (nI h, y_rows, y_columns, y_stack, y_lc, y_lines, y_pins) z c := by
  have hi : vp_in (nI h) 6 := vp_in_nI hh (by omega)
  unfold wpY_push
  dsimp only
  rw [nI_clamp (by omega)]
  exact ⟨hi, nm_e ⟨hi, nm_e (nm_r (nI_1 h) H)⟩⟩
theorem cy_pair {post : Int32 → SY → Prop} {x : Nat} {s : Int32} (hx : x + 2 ≤ 6) (H : post (nI (x + 1)) (nI (x + 1), y_rows, y_columns, upd y_stack x s, upd y_lc x (y_lc x + y_lc (x + 1)), y_lines, y_pins)) : wpY_pair post (nI (x + 2), y_rows, y_columns, y_stack, y_lc, y_lines, y_pins) s := by
  have hi0 : vp_in (nI x) 6 := vp_in_nI (by omega) (by omega)
  have hi1 : vp_in (nI (x + 1)) 6 := vp_in_nI (by omega) (by omega)
  have e1 : nI (x + 2) - 1 = nI (x + 1) := cw_s1 (by omega)
  have e2 : nI (x + 2) - 2 = nI x := pk_sub (a := x + 2) (b := 2) (by omega)
  unfold wpY_pair
  dsimp only
  rw [e1, e2, nI_clamp (n := x) (by omega), nI_clamp (n := x + 1) (by omega)]
  exact ⟨hi0, nm_e ⟨hi0, hi1, hi0, nm_e (nm_e H)⟩⟩
end
theorem cw_LNc {fi la ze on m : Int32} {fo fo' : Nat → Int32} (h : cw_LN fi la ze on fo m) (e : ∀ p, p < 8 → fo' p = fo p) : cw_LN fi la ze on fo' m := by
  refine ⟨h.1, fun len bits h1 a b => ?_⟩
  have ff : ∀ p q, p < 9 → (cw_FX fi fo p q ↔ cw_FX fi fo' p q) := by
    intro p q hp
    by_cases z : p = 8
    · subst z; exact Iff.rfl
    · rw [cw_FXp (by omega), cw_FXp (by omega), e p (by omega)]
  rw [h.2 len bits h1 a b]
  refine cw_bis (fun p p' => p = p' ∧ p < 9) ?_ ?_ ?_ _ 8 8 ⟨rfl, by omega⟩
  · intro p p' ⟨e1, _⟩
    rw [e1]
  · intro p p' q v ⟨e1, hp⟩ c d
    subst e1
    have hq := cw_KLlt h.1 d
    exact ⟨q, ⟨rfl, by omega⟩, (ff p q hp).mp c, d⟩
  · intro p p' q v ⟨e1, hp⟩ c d
    subst e1
    have hq := cw_KLlt h.1 d
    exact ⟨q, ⟨rfl, by omega⟩, (ff p q hp).mpr c, d⟩
theorem cw_LSu {R C l : Nat} {fi la ze on fo li fi' la' ze' on' fo' li' : Nat → Int32} (H : cw_LS R C fi la ze on fo li) (hs : ∀ i, i ≠ l → fi' i = fi i ∧ la' i = la i ∧ ze' i = ze i ∧ on' i = on i ∧ li' i = li i) (hf : ∀ j, ¬ (l * 8 ≤ j ∧ j < l * 8 + 8) → fo' j = fo j) (hn : cw_LN (fi' l) (la' l) (ze' l) (on' l) (fun p => fo' (l * 8 + p)) (li' l)) : cw_LS R C fi' la' ze' on' fo' li' := by
  intro i hi
  by_cases z : i = l
  · subst z; exact hn
  · obtain ⟨e1, e2, e3, e4, e5⟩ := hs i z
    rw [e1, e2, e3, e4, e5]
    exact cw_LNc (H i hi) (fun p hp => hf _ (by omega))
end
section
/-! ===== the constructors ===== -/
def cw_O3 (C m : Nat) (ro co pi : Nat → Int32) : Prop := ∀ e, e < m → ro e = nI (e / C) ∧ co e = nI (e % C) ∧ pi e = 2
def cw_O6 (m : Nat) (fi la ze on fo : Nat → Int32) : Prop := ∀ l, l < m → fi l = 1 ∧ la l = 1 ∧ ze l = 1 ∧ on l = 1 ∧ fo (l * 8) = 1
section
variable {f_rows f_columns f_lines f_cells f_height f_places f_ready f_found f_number f_allOnes f_anyOnes : Int32} {a_rowOf a_columnOf a_pins a_low a_first a_last a_empty a_kind a_follow a_turned a_lineFirst a_lineLast a_lineEmpty a_lineZeros a_lineOnes a_lineFollow a_back a_digit a_tried a_rowSet a_columnSet : Nat → Int32}
theorem cx_i302 {post : SX → Prop} {R C : Nat} (hrc : cw_RC R C) (H : ∀ s : (Nat → Int32) × (Nat → Int32) × (Nat → Int32) × (Nat → Int32) × (Nat → Int32) × (Nat → Int32), cw_O6 (R + C) s.1 s.2.1 s.2.2.2.1 s.2.2.2.2.1 s.2.2.2.2.2 → post (nI R, nI C, nI (R + C), nI (R * C), f_height, f_places, 0, f_found, f_number, f_allOnes, f_anyOnes, a_rowOf, a_columnOf, a_pins, a_low, a_first, a_last, a_empty, a_kind, a_follow, a_turned, s.1, s.2.1, s.2.2.1, s.2.2.2.1, s.2.2.2.2.1, s.2.2.2.2.2, a_back, a_digit, a_tried, a_rowSet, a_columnSet)) : ∃ n, wX_init_302 post (nI R) (nI C) n 0 (nI R) (nI C) (nI (R + C)) (nI (R * C)) f_height f_places 0 f_found f_number f_allOnes f_anyOnes a_rowOf a_columnOf a_pins a_low a_first a_last a_empty a_kind a_follow a_turned a_lineFirst a_lineLast a_lineEmpty a_lineZeros a_lineOnes a_lineFollow a_back a_digit a_tried a_rowSet a_columnSet := by
  have hR := hrc
  obtain ⟨h1, h2, h3, h4⟩ := hR
  refine loop_0 (σ := (Nat → Int32) × (Nat → Int32) × (Nat → Int32) × (Nat → Int32) × (Nat → Int32) × (Nat → Int32)) (fun n i s => wX_init_302 post (nI R) (nI C) n (nI i) (nI R) (nI C) (nI (R + C)) (nI (R * C)) f_height f_places 0 f_found f_number f_allOnes f_anyOnes a_rowOf a_columnOf a_pins a_low a_first a_last a_empty a_kind a_follow a_turned s.1 s.2.1 s.2.2.1 s.2.2.2.1 s.2.2.2.2.1 s.2.2.2.2.2 a_back a_digit a_tried a_rowSet a_columnSet) (fun i s => cw_O6 i s.1 s.2.1 s.2.2.2.1 s.2.2.2.2.1 s.2.2.2.2.2) (R + C) (a_lineFirst, a_lineLast, a_lineEmpty, a_lineZeros, a_lineOnes, a_lineFollow) (fun l h => absurd h (Nat.not_lt_zero _)) ?_ ?_
  · intro n s hI
    refine br_t ?_ (H s hI)
    rw [nI_add]
    exact nI_le (Nat.le_refl _) (by omega)
  · intro n i s hi hI K
    refine br_f ?_ (cx_anyWord (by omega) (fun f g1 g2 g3 => ?_))
    · rw [nI_add]
      exact nI_ge hi (by omega)
    · refine nm_r (nI_1 i) (K (upd s.1 i 1, upd s.2.1 i 1, upd s.2.2.1 i (vp_nar .boolean 1), upd s.2.2.2.1 i 1, upd s.2.2.2.2.1 i 1, f) (fun l hl => ?_))
      dsimp only
      by_cases z : l = i
      · subst z
        rw [pk_us, pk_us, pk_us, pk_us]
        exact ⟨rfl, rfl, rfl, rfl, g1⟩
      · rw [pk_un z, pk_un z, pk_un z, pk_un z, g3 _ (by omega)]
        exact hI l (by omega)
theorem cx_i251 {post : SX → Prop} {R C i n : Nat} {J : Int32 → Int32 → (Nat → Int32) → (Nat → Int32) → (Nat → Int32) → (Nat → Int32) → (Nat → Int32) → (Nat → Int32) → (Nat → Int32) → (Nat → Int32) → (Nat → Int32) → (Nat → Int32) → (Nat → Int32) → (Nat → Int32) → (Nat → Int32) → (Nat → Int32) → (Nat → Int32) → (Nat → Int32) → (Nat → Int32) → (Nat → Int32) → (Nat → Int32) → (Nat → Int32) → (Nat → Int32) → Prop} (hrc : cw_RC R C) (hi : i < R) (h0 : cw_O3 C (i * C) a_rowOf a_columnOf a_pins)
    (H : ∀ s : (Nat → Int32) × (Nat → Int32) × (Nat → Int32), cw_O3 C ((i + 1) * C) s.1 s.2.1 s.2.2 → J (nI ((i + 1) * C)) (nI (i + 1)) s.1 s.2.1 s.2.2 a_low a_first a_last a_empty a_kind a_follow a_turned a_lineFirst a_lineLast a_lineEmpty a_lineZeros a_lineOnes a_lineFollow a_back a_digit a_tried a_rowSet a_columnSet) :
    ∃ n, wX_init_251 post J (nI R) (nI C) (nI i) f_rows f_columns f_lines f_cells f_height f_places f_ready f_found f_number f_allOnes f_anyOnes n (nI (i * C)) 0 a_rowOf a_columnOf a_pins a_low a_first a_last a_empty a_kind a_follow a_turned a_lineFirst a_lineLast a_lineEmpty a_lineZeros a_lineOnes a_lineFollow a_back a_digit a_tried a_rowSet a_columnSet := by
  have hR := hrc
  have hN := cw_N12 hrc
  obtain ⟨h1, h2, h3, h4⟩ := hR
  refine loop_0 (σ := (Nat → Int32) × (Nat → Int32) × (Nat → Int32)) (fun n j s => wX_init_251 post J (nI R) (nI C) (nI i) f_rows f_columns f_lines f_cells f_height f_places f_ready f_found f_number f_allOnes f_anyOnes n (nI (i * C + j)) (nI j) s.1 s.2.1 s.2.2 a_low a_first a_last a_empty a_kind a_follow a_turned a_lineFirst a_lineLast a_lineEmpty a_lineZeros a_lineOnes a_lineFollow a_back a_digit a_tried a_rowSet a_columnSet) (fun j s => cw_O3 C (i * C + j) s.1 s.2.1 s.2.2) C (a_rowOf, a_columnOf, a_pins) h0 ?_ ?_
  · intro n s hI
    have e : i * C + C = (i + 1) * C := by rw [Nat.add_mul, Nat.one_mul]
    rw [e] at hI
    refine br_t (nI_le (Nat.le_refl _) (by omega)) (nm_r (nI_1 i) ?_)
    rw [e]
    exact H s hI
  · intro n j s hj hI K
    have hd := cw_rc hi hj
    have e := cw_dc (r := i) hj
    have hv : vp_in (nI (i * C + j)) 12 := vp_in_nI (by omega) (by omega)
    refine br_f (nI_ge hj (by omega)) ?_
    rw [nI_clamp (n := i * C + j) (by omega)]
    refine ⟨hv, nm_e ⟨hv, nm_e ⟨hv, nm_e (nm_r (nI_1 _) (nm_r (nI_1 j) (K (upd s.1 (i * C + j) (nI i), upd s.2.1 (i * C + j) (nI j), upd s.2.2 (i * C + j) 2) (fun l hl => ?_))))⟩⟩⟩
    dsimp only
    by_cases z : l = i * C + j
    · subst z
      rw [pk_us, pk_us, pk_us, e.1, e.2]
      exact ⟨rfl, rfl, rfl⟩
    · rw [pk_un z, pk_un z, pk_un z]
      exact hI l (by omega)
theorem cx_i209 {post : SX → Prop} {R C : Nat} (hrc : cw_RC R C) (H : ∀ (t : (Nat → Int32) × (Nat → Int32) × (Nat → Int32)) (s : (Nat → Int32) × (Nat → Int32) × (Nat → Int32) × (Nat → Int32) × (Nat → Int32) × (Nat → Int32)), cw_O3 C (R * C) t.1 t.2.1 t.2.2 → cw_O6 (R + C) s.1 s.2.1 s.2.2.2.1 s.2.2.2.2.1 s.2.2.2.2.2 → post (nI R, nI C, nI (R + C), nI (R * C), f_height, f_places, 0, f_found, f_number, f_allOnes, f_anyOnes, t.1, t.2.1, t.2.2, a_low, a_first, a_last, a_empty, a_kind, a_follow, a_turned, s.1, s.2.1, s.2.2.1, s.2.2.2.1, s.2.2.2.2.1, s.2.2.2.2.2, a_back, a_digit, a_tried, a_rowSet, a_columnSet)) : wX_init_209 post (nI R) (nI C) f_rows f_columns f_lines f_cells f_height f_places 0 f_found f_number f_allOnes f_anyOnes a_rowOf a_columnOf a_pins a_low a_first a_last a_empty a_kind a_follow a_turned a_lineFirst a_lineLast a_lineEmpty a_lineZeros a_lineOnes a_lineFollow a_back a_digit a_tried a_rowSet a_columnSet := by
  have hR := hrc
  obtain ⟨h1, h2, h3, h4⟩ := hR
  unfold wX_init_209
  refine nm_r (nI_add R C) (nm_r (pk_mul R C) ?_)
  refine loop_0 (σ := (Nat → Int32) × (Nat → Int32) × (Nat → Int32)) (fun n i s => wX_init_242 post (nI R) (nI C) (nI R) (nI C) (nI (R + C)) (nI (R * C)) f_height f_places 0 f_found f_number f_allOnes f_anyOnes n (nI (i * C)) (nI i) s.1 s.2.1 s.2.2 a_low a_first a_last a_empty a_kind a_follow a_turned a_lineFirst a_lineLast a_lineEmpty a_lineZeros a_lineOnes a_lineFollow a_back a_digit a_tried a_rowSet a_columnSet) (fun i s => cw_O3 C (i * C) s.1 s.2.1 s.2.2) R (a_rowOf, a_columnOf, a_pins) (fun e he => absurd he (by omega)) ?_ ?_ |> fun ⟨n, hn⟩ => ⟨n, ?_⟩
  · intro n t hI
    exact br_t (nI_le (Nat.le_refl _) (by omega)) (cx_i302 hrc (fun s hs => H t s hI hs))
  · intro n i s hi hI K
    exact br_f (nI_ge hi (by omega)) (cx_i251 (n := n) hrc hi hI (fun s' hs' => K s' hs'))
  · dsimp only at hn
    rw [Nat.zero_mul] at hn
    exact hn
/-- a constructor's argument p, held between 1 and M, is R -/
def cw_clp (p : Int32) (M R : Nat) : Prop := (¬ 1 ≤ p ∧ R = 1) ∨ (1 ≤ p ∧ ¬ p ≤ nI M ∧ R = M) ∨ (1 ≤ p ∧ p ≤ nI M ∧ p = nI R ∧ 1 ≤ R ∧ R ≤ M)
theorem cw_clpE (p : Int32) {M : Nat} (hM : M < 100) : ∃ R, cw_clp p M R := by
  by_cases a : 1 ≤ p
  · by_cases b : p ≤ nI M
    · have c : ¬ p < 0 := by
        intro z
        have z2 := Int32.lt_of_le_of_lt a z
        exact absurd z2 (by decide)
      obtain ⟨R, hR, rfl⟩ := nI_of c
      have b' := (nI_leI hR (by omega)).mp b
      have a' := (nI_leI (a := 1) (by omega) hR).mp a
      exact ⟨R, Or.inr (Or.inr ⟨a, b, rfl, a', b'⟩)⟩
    · exact ⟨M, Or.inr (Or.inl ⟨a, b, rfl⟩)⟩
  · exact ⟨1, Or.inl ⟨a, rfl⟩⟩
theorem cx_init {post : SX → Prop} {p0 p1 : Int32} {R C : Nat} (h0 : cw_clp p0 3 R) (h1 : cw_clp p1 4 C) (H : wX_init_209 post (nI R) (nI C) 0 0 0 0 0 0 0 0 0 0 0 (fun _ => 0) (fun _ => 0) (fun _ => 0) (fun _ => 0) (fun _ => 0) (fun _ => 0) (fun _ => 0) (fun _ => 0) (fun _ => 0) (fun _ => 0) (fun _ => 0) (fun _ => 0) (fun _ => 0) (fun _ => 0) (fun _ => 0) (fun _ => 0) (fun _ => 0) (fun _ => 0) (fun _ => 0) (fun _ => 0) (fun _ => 0)) : wpX_init post p0 p1 := by
  have k188 : ∀ x3 : Int32, x3 = nI R → wX_init_188 post p1 x3 0 0 0 0 0 0 0 0 0 0 0 (fun _ => 0) (fun _ => 0) (fun _ => 0) (fun _ => 0) (fun _ => 0) (fun _ => 0) (fun _ => 0) (fun _ => 0) (fun _ => 0) (fun _ => 0) (fun _ => 0) (fun _ => 0) (fun _ => 0) (fun _ => 0) (fun _ => 0) (fun _ => 0) (fun _ => 0) (fun _ => 0) (fun _ => 0) (fun _ => 0) (fun _ => 0) := by
    intro x3 e3
    subst e3
    rcases h1 with ⟨a, rfl⟩ | ⟨a, b, rfl⟩ | ⟨a, b, rfl, _⟩
    · exact br_f a (br_t (by decide) H)
    · exact br_t a (br_f b H)
    · exact br_t a (br_t b H)
  rcases h0 with ⟨a, rfl⟩ | ⟨a, b, rfl⟩ | ⟨a, b, e, _⟩
  · exact br_f a (br_t (by decide) (k188 _ rfl))
  · exact br_t a (br_f b (k188 _ rfl))
  · exact br_t a (br_t b (k188 _ e))
end
section
variable {y_depth y_rows y_columns : Int32} {y_stack y_lc y_lines y_pins : Nat → Int32}
theorem cy_i106 {post : SY → Prop} (H : ∀ yp : Nat → Int32, (∀ e, e < 12 → yp e = 2) → post (y_depth, y_rows, y_columns, y_stack, y_lc, y_lines, yp)) : ∃ n, wY_init_106 post y_depth y_rows y_columns n 0 y_stack y_lc y_lines y_pins := by
  refine loop_0 (fun n i (s : Nat → Int32) => wY_init_106 post y_depth y_rows y_columns n (nI i) y_stack y_lc y_lines s) (fun i s => ∀ e, e < i → s e = 2) 12 y_pins (fun e h => absurd h (Nat.not_lt_zero _)) ?_ ?_
  · intro n s hI
    exact br_t (nI_le (a := 12) (b := 12) (by omega) (by omega)) (H s hI)
  · intro n i s hi hI K
    refine br_f (nI_ge (b := 12) hi (by omega)) ?_
    rw [nI_clamp (by omega)]
    refine ⟨vp_in_nI hi (by omega), nm_e (nm_r (nI_1 i) (K _ (fun e he => ?_)))⟩
    by_cases z : e = i
    · subst z; exact pk_us
    · rw [pk_un z]; exact hI e (by omega)
theorem cy_i84 {post : SY → Prop} (H : ∀ yp li : Nat → Int32, (∀ e, e < 12 → yp e = 2) → (∀ l, l < 7 → li l = 2147483647) → post (y_depth, y_rows, y_columns, y_stack, y_lc, li, yp)) : ∃ n, wY_init_84 post y_depth y_rows y_columns n 0 y_stack y_lc y_lines y_pins := by
  refine loop_0 (fun n i (s : Nat → Int32) => wY_init_84 post y_depth y_rows y_columns n (nI i) y_stack y_lc s y_pins) (fun i s => ∀ e, e < i → s e = 2147483647) 7 y_lines (fun e h => absurd h (Nat.not_lt_zero _)) ?_ ?_
  · intro n s hI
    exact br_t (nI_le (a := 7) (b := 7) (by omega) (by omega)) (cy_i106 (fun yp hy => H yp s hy hI))
  · intro n i s hi hI K
    refine br_f (nI_ge (b := 7) hi (by omega)) ?_
    rw [nI_clamp (by omega)]
    refine ⟨vp_in_nI hi (by omega), nm_e (nm_r (nI_1 i) (K _ (fun e he => ?_)))⟩
    by_cases z : e = i
    · subst z; exact pk_us
    · rw [pk_un z]; exact hI e (by omega)
theorem cy_init {post : SY → Prop} {p0 p1 : Int32} {R C : Nat} (h0 : cw_clp p0 3 R) (h1 : cw_clp p1 4 C) (H : ∀ yp li : Nat → Int32, (∀ e, e < 12 → yp e = 2) → (∀ l, l < 7 → li l = 2147483647) → post (0, nI R, nI C, fun _ => 0, fun _ => 0, li, yp)) : wpY_init post p0 p1 := by
  have k56 : ∀ z0 : Int32, z0 = nI R → wY_init_56 post p1 z0 0 0 0 (fun _ => 0) (fun _ => 0) (fun _ => 0) (fun _ => 0) := by
    intro z0 e
    subst e
    rcases h1 with ⟨a, rfl⟩ | ⟨a, b, rfl⟩ | ⟨a, b, rfl, _⟩
    · exact br_f a (cy_i84 H)
    · exact br_t a (br_f b (cy_i84 H))
    · exact br_t a (br_t b (cy_i84 H))
  rcases h0 with ⟨a, rfl⟩ | ⟨a, b, rfl⟩ | ⟨a, b, e, _⟩
  · exact br_f a (k56 _ rfl)
  · exact br_t a (br_f b (k56 _ rfl))
  · exact br_t a (br_t b (k56 _ e))
end
theorem cw_clpR {p q : Int32} {R C : Nat} (h0 : cw_clp p 3 R) (h1 : cw_clp q 4 C) : cw_RC R C := by
  refine ⟨?_, ?_, ?_, ?_⟩
  · rcases h0 with ⟨_, rfl⟩ | ⟨_, _, rfl⟩ | ⟨_, _, _, _, _⟩ <;> omega
  · rcases h0 with ⟨_, rfl⟩ | ⟨_, _, rfl⟩ | ⟨_, _, _, _, _⟩ <;> omega
  · rcases h1 with ⟨_, rfl⟩ | ⟨_, _, rfl⟩ | ⟨_, _, _, _, _⟩ <;> omega
  · rcases h1 with ⟨_, rfl⟩ | ⟨_, _, rfl⟩ | ⟨_, _, _, _, _⟩ <;> omega
theorem i_vc0 (k0 : Int32) (k1 : Int32) : wpX_init (fun u => wpY_init (fun v => i_Rel 2 u v) k0 k1) k0 k1 := by
  obtain ⟨R, h0⟩ := cw_clpE k0 (M := 3) (by omega)
  obtain ⟨C, h1⟩ := cw_clpE k1 (M := 4) (by omega)
  have hrc := cw_clpR h0 h1
  refine cx_init h0 h1 (cx_i209 hrc (fun t s ht hs => cy_init h0 h1 (fun yp li hy hli => ?_)))
  have hR := hrc
  obtain ⟨r1, r2, r3, r4⟩ := hR
  refine cw_in (h := 0) (pl := 0) (lo := fun _ => 0) hrc rfl (fun e he => ⟨(ht e he).1, (ht e he).2.1⟩) (fun r c hr hc => ?_) ⟨by omega, rfl, Nat.zero_le _, fun i hi => absurd hi (Nat.not_lt_zero _)⟩ (fun l hl => ?_) (Or.inl rfl)
  · rw [(ht _ (cw_rc hr hc)).2.2, hy _ (by omega)]
  · obtain ⟨a1, a2, a3, a4, a5⟩ := hs l hl
    rw [a1, a2, a3, a4, hli l (by omega)]
    exact cw_LNall a5
end
section
/-! ===== what is owed: expressions ===== -/
theorem cw_h0 {h : Nat} (h0 : h = 0) : ¬ (1 : Int32) ≤ nI h := by
  subst h0
  decide
theorem i_vc_depth {k : Nat} {u : SX} {v : SY} (I : i_Rel k u v) (hk : k + 4 ≤ 2050) : wpX_depth (fun r => wpY_depth (fun r' => r' = r ∧ i_Rel (k + 4) u v) v) u := by
  refine cw_el (P := fun u v => wpX_depth (fun r => wpY_depth (fun r' => r' = r ∧ i_Rel (k + 4) u v) v) u) ?_ I
  intro R C h pl lo f_ready f_found f_number f_allOnes f_anyOnes a_rowOf a_columnOf a_pins a_low a_first a_last a_empty a_kind a_follow a_turned a_lineFirst a_lineLast a_lineEmpty a_lineZeros a_lineOnes a_lineFollow a_back a_digit a_tried a_rowSet a_columnSet y_stack y_lc y_lines y_pins hrc hpl hro hpn hst hls hbk I0
  have I4 := i_up I0
  exact ⟨rfl, I4⟩
theorem i_vc_letters {k : Nat} {u : SX} {v : SY} (I : i_Rel k u v) (hk : k + 4 ≤ 2050) : wpX_letters (fun r => wpY_letters (fun r' => r' = r ∧ i_Rel (k + 4) u v) v) u := by
  refine cw_el (P := fun u v => wpX_letters (fun r => wpY_letters (fun r' => r' = r ∧ i_Rel (k + 4) u v) v) u) ?_ I
  intro R C h pl lo f_ready f_found f_number f_allOnes f_anyOnes a_rowOf a_columnOf a_pins a_low a_first a_last a_empty a_kind a_follow a_turned a_lineFirst a_lineLast a_lineEmpty a_lineZeros a_lineOnes a_lineFollow a_back a_digit a_tried a_rowSet a_columnSet y_stack y_lc y_lines y_pins hrc hpl hro hpn hst hls hbk I0
  have I4 := i_up I0
  subst hpl
  exact cy_letters hst.1 hst.2.1 (fun i hi => ⟨(hst.2.2.2 i hi).1, (hst.2.2.2 i hi).2.2.1⟩) ⟨rfl, I4⟩
theorem i_vc_unit {k : Nat} {u : SX} {v : SY} (I : i_Rel k u v) (hk : k + 4 ≤ 2050) : wpX_unit (fun r u' => wpY_unit (fun r' v' => r' = r ∧ i_Rel (k + 4) u' v') v) u := by
  refine cw_el (P := fun u v => wpX_unit (fun r u' => wpY_unit (fun r' v' => r' = r ∧ i_Rel (k + 4) u' v') v) u) ?_ I
  intro R C h pl lo f_ready f_found f_number f_allOnes f_anyOnes a_rowOf a_columnOf a_pins a_low a_first a_last a_empty a_kind a_follow a_turned a_lineFirst a_lineLast a_lineEmpty a_lineZeros a_lineOnes a_lineFollow a_back a_digit a_tried a_rowSet a_columnSet y_stack y_lc y_lines y_pins hrc hpl hro hpn hst hls hbk I0
  have I4 := i_up I0
  subst hpl
  by_cases h6 : h = 6
  · subst h6
    exact br_t rfl (br_t rfl ⟨rfl, I4⟩)
  · have hh : h < 6 := by have := hst.1; omega
    refine cx_unit hh ?_
    unfold wpY_unit
    dsimp only
    refine br_f (cw_ne (b := 6) (by omega) (by omega) (by omega)) (cy_push hh ?_)
    dsimp only
    refine ⟨rfl, cw_in (lo := fun i => if i = h + 1 then lo h else lo i) hrc (if_pos rfl).symm hro hpn ?_ hls hbk⟩
    refine cw_STx hst (Nat.le_refl _) hh (Nat.le_refl _) hst.2.2.1 (fun i hi => ?_) (fun p _ => ⟨rfl, fun q => Iff.rfl⟩) pk_us ?_ ?_
    · have z : i ≠ h := by omega
      exact ⟨pk_un z, pk_un z, pk_un z, pk_un z, pk_un z, pk_un z⟩
    · rw [pk_us, Nat.sub_self]
      rfl
    · rw [pk_us, pk_us, pk_us, pk_us]
      exact cw_ITunit _ _ _
theorem i_vc_letter {k : Nat} {u : SX} {v : SY} (I : i_Rel k u v) (hk : k + 4 ≤ 2050) (v1 : Int32) : wpX_letter (fun r u' => wpY_letter (fun r' v' => r' = r ∧ i_Rel (k + 4) u' v') v v1) u v1 := by
  refine cw_el (P := fun u v => wpX_letter (fun r u' => wpY_letter (fun r' v' => r' = r ∧ i_Rel (k + 4) u' v') v v1) u v1) ?_ I
  intro R C h pl lo f_ready f_found f_number f_allOnes f_anyOnes a_rowOf a_columnOf a_pins a_low a_first a_last a_empty a_kind a_follow a_turned a_lineFirst a_lineLast a_lineEmpty a_lineZeros a_lineOnes a_lineFollow a_back a_digit a_tried a_rowSet a_columnSet y_stack y_lc y_lines y_pins hrc hpl hro hpn hst hls hbk I0
  have I4 := i_up I0
  subst hpl
  by_cases a : v1 < 0
  · exact br_t a (br_t a ⟨rfl, I4⟩)
  by_cases b : v1 ≤ 2
  · obtain ⟨c, hc, rfl⟩ := nI_of2 (n := 2) (by decide) a b
    by_cases h6 : h = 6
    · subst h6
      exact br_f a (br_t b (br_t rfl (br_f a (br_t b (br_t rfl ⟨rfl, I4⟩)))))
    have hh : h < 6 := by have := hst.1; omega
    have h6' : ¬ nI h = 6 := cw_ne (b := 6) (by omega) (by omega) (by omega)
    have hlet : ∀ post : Int32 → Prop, post (nI (lo h)) → wpY_letters post (nI h, nI R, nI C, y_stack, y_lc, y_lines, y_pins) := fun post hp => cy_letters hst.1 hst.2.1 (fun i hi => ⟨(hst.2.2.2 i hi).1, (hst.2.2.2 i hi).2.2.1⟩) hp
    by_cases h8 : lo h = 8
    · refine br_f a (br_t b (br_f h6' (br_t (by rw [h8]; rfl) ?_)))
      exact br_f a (br_t b (br_f h6' (hlet _ (br_t (by rw [h8]; rfl) ⟨rfl, I4⟩))))
    · have hl : lo h < 8 := by have := hst.2.2.1; omega
      refine cx_letter hh hl hc ?_
      have fin : ∀ z : Int32, (∀ i, i < 31 → (bt z i = true ↔ (i = 1 ∧ ¬ nI c = 1) ∨ (i = 2 ∧ ¬ nI c = 0))) → wY_letter_52 (fun r' v' => r' = nI (h + 1) ∧ i_Rel (k + 4) (nI R, nI C, nI (R + C), nI (R * C), nI (h + 1), nI (lo h + 1), f_ready, f_found, f_number, f_allOnes, f_anyOnes, a_rowOf, a_columnOf, a_pins, upd a_low h (nI (lo h)), upd a_first h ((1 : Int32) <<< (nI (lo h) &&& 31)), upd a_last h ((1 : Int32) <<< (nI (lo h) &&& 31)), upd a_empty h (vp_nar .boolean 0), upd a_kind (lo h) (nI c), upd a_follow (lo h) 0, a_turned, a_lineFirst, a_lineLast, a_lineEmpty, a_lineZeros, a_lineOnes, a_lineFollow, a_back, a_digit, a_tried, a_rowSet, a_columnSet) v') z (nI h) (nI R) (nI C) y_stack y_lc y_lines y_pins := by
        intro z hz
        refine cy_push hh ?_
        refine ⟨rfl, cw_in (lo := fun i => if i = h + 1 then lo h + 1 else lo i) hrc (if_pos rfl).symm hro hpn ?_ hls hbk⟩
        refine cw_STx hst (Nat.le_refl _) hh (by omega) (by omega) (fun i hi => ?_) (fun p hp => ⟨pk_un (by omega), fun q => ?_⟩) pk_us ?_ ?_
        · have y : i ≠ h := by omega
          exact ⟨pk_un y, pk_un y, pk_un y, pk_un y, pk_un y, pk_un y⟩
        · rw [pk_un (by omega)]
        · rw [pk_us, Nat.add_sub_cancel_left]
          rfl
        · rw [pk_us, pk_us, pk_us, pk_us]
          refine cw_ITletter hl cw_nb0 (fun q => ?_) ?_
          · rw [pk_us, b_0]
          · rw [pk_us]
            exact hz
      have c3 : c = 0 ∨ c = 1 ∨ c = 2 := by omega
      refine br_f a (br_t b (br_f h6' (hlet _ (br_f (cw_ne (b := 8) h8 (by omega) (by omega)) ?_))))
      rcases c3 with rfl | rfl | rfl
      · refine br_t rfl (fin 2 (fun i hi => ?_))
        rw [(cw_mk2 i hi).1, decide_eq_true_iff]
        exact ⟨fun y => Or.inl ⟨y, by decide⟩, fun y => y.elim (fun t => t.1) (fun t => absurd rfl t.2)⟩
      · refine br_f (by decide) (br_t rfl (fin 4 (fun i hi => ?_)))
        rw [(cw_mk2 i hi).2.1, decide_eq_true_iff]
        exact ⟨fun y => Or.inr ⟨y, by decide⟩, fun y => y.elim (fun t => absurd rfl t.2) (fun t => t.1)⟩
      · refine br_f (by decide) (br_f (by decide) (fin 6 (fun i hi => ?_)))
        rw [(cw_mk2 i hi).2.2, decide_eq_true_iff]
        exact ⟨fun y => y.elim (fun t => Or.inl ⟨t, by decide⟩) (fun t => Or.inr ⟨t, by decide⟩), fun y => y.elim (fun t => Or.inl t.1) (fun t => Or.inr t.1)⟩
  · exact br_f a (br_f b (br_f a (br_f b ⟨rfl, I4⟩)))
end
section
/-! ===== what is owed: operations ===== -/
theorem i_vc_cat {k : Nat} {u : SX} {v : SY} (I : i_Rel k u v) (hk : k + 4 ≤ 2050) : wpX_cat (fun r u' => wpY_cat (fun r' v' => r' = r ∧ i_Rel (k + 4) u' v') v) u := by
  refine cw_el (P := fun u v => wpX_cat (fun r u' => wpY_cat (fun r' v' => r' = r ∧ i_Rel (k + 4) u' v') v) u) ?_ I
  intro R C h pl lo f_ready f_found f_number f_allOnes f_anyOnes a_rowOf a_columnOf a_pins a_low a_first a_last a_empty a_kind a_follow a_turned a_lineFirst a_lineLast a_lineEmpty a_lineZeros a_lineOnes a_lineFollow a_back a_digit a_tried a_rowSet a_columnSet y_stack y_lc y_lines y_pins hrc hpl hro hpn hst hls hbk I0
  have I4 := i_up I0
  subst hpl
  by_cases h2 : h < 2
  · have z : ¬ (2 : Int32) ≤ nI h := nI_ge (b := 2) h2 (by omega)
    exact br_f z (br_f z ⟨rfl, I4⟩)
  obtain ⟨x, rfl⟩ : ∃ x, h = x + 2 := ⟨h - 2, by omega⟩
  have h6 := hst.1
  obtain ⟨m1, l1, c1, t1⟩ := hst.2.2.2 x (by omega)
  obtain ⟨m2, l2, c2, t2⟩ := hst.2.2.2 (x + 1) (by omega)
  have h8 := hst.2.2.1
  refine cx_cat h6 (fun p hp => ?_) (fun g fa la ea g1 g2 g3 g4 g5 => ?_)
  · have := t1.1.2.1 p hp
    have m2' : lo (x + 1) ≤ lo (x + 2) := m2
    omega
  · have e1 : nI (x + 2) - 1 = nI (x + 1) := cw_s1 (by omega)
    have e2 : nI (x + 2) - 2 = nI x := pk_sub (a := x + 2) (b := 2) (by omega)
    unfold wpY_cat
    dsimp only
    refine br_t (nI_le (a := 2) (by omega) (by omega)) ?_
    rw [e1, e2, nI_clamp (n := x) (by omega), nI_clamp (n := x + 1) (by omega)]
    refine ⟨vp_in_nI (by omega) (by omega), vp_in_nI (by omega) (by omega), cy_products (fun len bits => cw_IL (fa x) (la x) (ea x) a_kind g (cw_wd len bits)) (cw_ITcatT t1 t2 g1 g2 g3 g4) (fun s hs => cy_pair h6 ?_)⟩
    dsimp only
    refine ⟨rfl, cw_in (lo := fun i => if i = x + 1 then lo (x + 2) else lo i) hrc (if_pos rfl).symm hro hpn ?_ hls hbk⟩
    refine cw_STx hst (by omega) (by omega) (Nat.le_trans m1 m2) h8 (fun i hi => ?_) (fun p hp => ⟨rfl, fun q => ?_⟩) l1 ?_ ?_
    · have y : i ≠ x := by omega
      exact ⟨rfl, (g5 i y).1, (g5 i y).2.1, (g5 i y).2.2, pk_un y, pk_un y⟩
    · rw [g1 p q]
      refine ⟨fun z => z.elim id (fun y => ?_), Or.inl⟩
      have := t1.1.2.1 p y.1
      omega
    · rw [pk_us, c1, c2, nI_add]
      have m2' : lo (x + 1) ≤ lo (x + 2) := m2
      exact congrArg nI (show lo (x + 1) - lo x + (lo (x + 2) - lo (x + 1)) = lo (x + 2) - lo x from by omega)
    · rw [pk_us]
      exact ⟨cw_ITcatR m1 m2 t1 t2 g1 g2 g3, hs⟩
theorem i_vc_alt {k : Nat} {u : SX} {v : SY} (I : i_Rel k u v) (hk : k + 4 ≤ 2050) : wpX_alt (fun r u' => wpY_alt (fun r' v' => r' = r ∧ i_Rel (k + 4) u' v') v) u := by
  refine cw_el (P := fun u v => wpX_alt (fun r u' => wpY_alt (fun r' v' => r' = r ∧ i_Rel (k + 4) u' v') v) u) ?_ I
  intro R C h pl lo f_ready f_found f_number f_allOnes f_anyOnes a_rowOf a_columnOf a_pins a_low a_first a_last a_empty a_kind a_follow a_turned a_lineFirst a_lineLast a_lineEmpty a_lineZeros a_lineOnes a_lineFollow a_back a_digit a_tried a_rowSet a_columnSet y_stack y_lc y_lines y_pins hrc hpl hro hpn hst hls hbk I0
  have I4 := i_up I0
  subst hpl
  by_cases h2 : h < 2
  · have z : ¬ (2 : Int32) ≤ nI h := nI_ge (b := 2) h2 (by omega)
    exact br_f z (br_f z ⟨rfl, I4⟩)
  obtain ⟨x, rfl⟩ : ∃ x, h = x + 2 := ⟨h - 2, by omega⟩
  have h6 := hst.1
  obtain ⟨m1, l1, c1, t1⟩ := hst.2.2.2 x (by omega)
  obtain ⟨m2, l2, c2, t2⟩ := hst.2.2.2 (x + 1) (by omega)
  have h8 := hst.2.2.1
  refine cx_alt h6 (fun fa la ea g2 g3 g4 g5 => ?_)
  have e1 : nI (x + 2) - 1 = nI (x + 1) := cw_s1 (by omega)
  have e2 : nI (x + 2) - 2 = nI x := pk_sub (a := x + 2) (b := 2) (by omega)
  unfold wpY_alt
  dsimp only
  refine br_t (nI_le (a := 2) (by omega) (by omega)) ?_
  rw [e1, e2, nI_clamp (n := x) (by omega), nI_clamp (n := x + 1) (by omega)]
  refine ⟨vp_in_nI (by omega) (by omega), vp_in_nI (by omega) (by omega), cy_pair h6 ?_⟩
  dsimp only
  refine ⟨rfl, cw_in (lo := fun i => if i = x + 1 then lo (x + 2) else lo i) hrc (if_pos rfl).symm hro hpn ?_ hls hbk⟩
  refine cw_STx hst (by omega) (by omega) (Nat.le_trans m1 m2) h8 (fun i hi => ?_) (fun p hp => ⟨rfl, fun q => Iff.rfl⟩) l1 ?_ ?_
  · have y : i ≠ x := by omega
    exact ⟨rfl, (g5 i y).1, (g5 i y).2.1, (g5 i y).2.2, pk_un y, pk_un y⟩
  · rw [pk_us, c1, c2, nI_add]
    have m2' : lo (x + 1) ≤ lo (x + 2) := m2
    exact congrArg nI (show lo (x + 1) - lo x + (lo (x + 2) - lo (x + 1)) = lo (x + 2) - lo x from by omega)
  · rw [pk_us]
    exact cw_ITalt m1 m2 t1 t2 g2 g3 g4
theorem i_vc_star {k : Nat} {u : SX} {v : SY} (I : i_Rel k u v) (hk : k + 4 ≤ 2050) : wpX_star (fun r u' => wpY_star (fun r' v' => r' = r ∧ i_Rel (k + 4) u' v') v) u := by
  refine cw_el (P := fun u v => wpX_star (fun r u' => wpY_star (fun r' v' => r' = r ∧ i_Rel (k + 4) u' v') v) u) ?_ I
  intro R C h pl lo f_ready f_found f_number f_allOnes f_anyOnes a_rowOf a_columnOf a_pins a_low a_first a_last a_empty a_kind a_follow a_turned a_lineFirst a_lineLast a_lineEmpty a_lineZeros a_lineOnes a_lineFollow a_back a_digit a_tried a_rowSet a_columnSet y_stack y_lc y_lines y_pins hrc hpl hro hpn hst hls hbk I0
  have I4 := i_up I0
  subst hpl
  by_cases h0 : h = 0
  · subst h0
    exact br_f (by decide) (br_t rfl ⟨rfl, I4⟩)
  obtain ⟨x, rfl⟩ : ∃ x, h = x + 1 := ⟨h - 1, by omega⟩
  have h6 := hst.1
  obtain ⟨m1, l1, c1, t1⟩ := hst.2.2.2 x (by omega)
  have h8 := hst.2.2.1
  have e1 : nI (x + 1) - 1 = nI x := cw_s1 (by omega)
  refine cx_star h6 (fun p hp => ?_) (fun g ea g1 g4 g5 => ?_)
  · have := t1.1.2.1 p hp
    omega
  · unfold wpY_star
    dsimp only
    refine br_f (cw_ne (b := 0) (by omega) (by omega) (by omega)) ?_
    rw [e1, nI_clamp (n := x) (by omega)]
    refine ⟨vp_in_nI (by omega) (by omega), cy_chains (fun len bits => cw_IL (a_first x) (a_last x) (ea x) a_kind g (cw_wd len bits)) g4 (cw_ITstarT t1 g1 g4) (fun s hs => ⟨vp_in_nI (by omega) (by omega), nm_e ⟨rfl, cw_in (lo := fun i => if i = x + 1 then lo (x + 1) else lo i) hrc (if_pos rfl).symm hro hpn ?_ hls hbk⟩⟩)⟩
    refine cw_STx hst (by omega) (by omega) m1 h8 (fun i hi => ?_) (fun p hp => ⟨rfl, fun q => ?_⟩) l1 c1 ?_
    · have y : i ≠ x := by omega
      exact ⟨rfl, rfl, rfl, g5 i y, pk_un y, rfl⟩
    · rw [g1 p q]
      refine ⟨fun z => z.elim id (fun y => ?_), Or.inl⟩
      have := t1.1.2.1 p y.1
      omega
    · rw [pk_us]
      exact ⟨cw_ITstarR t1 g1, hs⟩
theorem i_vc_reverse {k : Nat} {u : SX} {v : SY} (I : i_Rel k u v) (hk : k + 4 ≤ 2050) : wpX_reverse (fun r u' => wpY_reverse (fun r' v' => r' = r ∧ i_Rel (k + 4) u' v') v) u := by
  refine cw_el (P := fun u v => wpX_reverse (fun r u' => wpY_reverse (fun r' v' => r' = r ∧ i_Rel (k + 4) u' v') v) u) ?_ I
  intro R C h pl lo f_ready f_found f_number f_allOnes f_anyOnes a_rowOf a_columnOf a_pins a_low a_first a_last a_empty a_kind a_follow a_turned a_lineFirst a_lineLast a_lineEmpty a_lineZeros a_lineOnes a_lineFollow a_back a_digit a_tried a_rowSet a_columnSet y_stack y_lc y_lines y_pins hrc hpl hro hpn hst hls hbk I0
  have I4 := i_up I0
  subst hpl
  by_cases h0 : h = 0
  · subst h0
    exact br_f (by decide) (br_t rfl ⟨rfl, I4⟩)
  obtain ⟨x, rfl⟩ : ∃ x, h = x + 1 := ⟨h - 1, by omega⟩
  have h6 := hst.1
  obtain ⟨m1, l1, c1, t1⟩ := hst.2.2.2 x (by omega)
  have h8 := hst.2.2.1
  have e1 : nI (x + 1) - 1 = nI x := cw_s1 (by omega)
  refine cx_reverse h6 m1 h8 l1 (fun g fa la tu g1 g2 g3 g4 g5 => ?_)
  unfold wpY_reverse
  dsimp only
  refine br_f (cw_ne (b := 0) (by omega) (by omega) (by omega)) ?_
  rw [e1, nI_clamp (n := x) (by omega)]
  refine ⟨vp_in_nI (by omega) (by omega), cy_mirrors (fun len bits => cw_IL (a_last x) (a_first x) (a_empty x) a_kind g (cw_wd len bits)) (cw_ITrevT t1 g1) (fun s hs => ⟨vp_in_nI (by omega) (by omega), nm_e ⟨rfl, cw_in (lo := fun i => if i = x + 1 then lo (x + 1) else lo i) hrc (if_pos rfl).symm hro hpn ?_ hls hbk⟩⟩)⟩
  refine cw_STx hst (by omega) (by omega) m1 h8 (fun i hi => ?_) (fun p hp => ⟨rfl, fun q => ?_⟩) l1 c1 ?_
  · have y : i ≠ x := by omega
    exact ⟨rfl, (g5 i y).1, (g5 i y).2, rfl, pk_un y, rfl⟩
  · rw [g2 p (by omega)]
  · rw [pk_us, g3, g4]
    exact ⟨cw_ITrevR t1 g1, hs⟩
end
section
/-! ===== what is owed: lines and pins ===== -/
theorem cw_lineC (x : Int32) {L : Nat} (hL : L < 100) : (∃ l, l < L ∧ x = nI l) ∨ ((¬ ∃ l, l < L ∧ x = nI l) ∧ (x < 0 ∨ (¬ x < 0 ∧ ¬ x < nI L))) := by
  by_cases a : x < 0
  · refine Or.inr ⟨fun ⟨l, hl, e⟩ => ?_, Or.inl a⟩
    subst e
    exact absurd a (nI_pos (by omega))
  · obtain ⟨l, hl, rfl⟩ := nI_of a
    by_cases b : l < L
    · exact Or.inl ⟨l, b, rfl⟩
    · refine Or.inr ⟨fun ⟨l', hl', e⟩ => ?_, Or.inr ⟨a, nI_nlt (by omega) hl⟩⟩
      have := (nI_eq hl (by omega)).mp e
      omega
theorem i_vc_freeLine {k : Nat} {u : SX} {v : SY} (I : i_Rel k u v) (hk : k + 4 ≤ 2050) (v1 : Int32) : wpX_freeLine (fun r u' => wpY_freeLine (fun r' v' => r' = r ∧ i_Rel (k + 4) u' v') v v1) u v1 := by
  refine cw_el (P := fun u v => wpX_freeLine (fun r u' => wpY_freeLine (fun r' v' => r' = r ∧ i_Rel (k + 4) u' v') v v1) u v1) ?_ I
  intro R C h pl lo f_ready f_found f_number f_allOnes f_anyOnes a_rowOf a_columnOf a_pins a_low a_first a_last a_empty a_kind a_follow a_turned a_lineFirst a_lineLast a_lineEmpty a_lineZeros a_lineOnes a_lineFollow a_back a_digit a_tried a_rowSet a_columnSet y_stack y_lc y_lines y_pins hrc hpl hro hpn hst hls hbk I0
  have I4 := i_up I0
  have hR := hrc
  obtain ⟨r1, r2, r3, r4⟩ := hR
  rcases cw_lineC v1 (L := R + C) (by omega) with ⟨l, hl, rfl⟩ | ⟨hn, hv⟩
  · unfold wpX_freeLine
    dsimp only
    refine br_f (nI_pos (by omega)) (br_t (nI_lt hl (by omega)) (cx_anyWord (by omega) (fun f g1 g2 g3 => ?_)))
    dsimp only
    unfold wpY_freeLine
    dsimp only
    refine cy_isLineT hrc hl (br_f (by decide) ⟨vp_in_nI (by omega) (by omega), nm_e ⟨rfl, cw_in (lo := lo) hrc hpl hro hpn hst ?_ (Or.inl rfl)⟩⟩)
    rw [nI_clamp (by omega)]
    refine cw_LSu hls (l := l) (fun i hi => ⟨pk_un hi, pk_un hi, pk_un hi, pk_un hi, pk_un hi⟩) g3 ?_
    rw [pk_us, pk_us, pk_us, pk_us, pk_us]
    exact cw_LNall g1
  · have hy : wpY_freeLine (fun r' v' => r' = -1 ∧ i_Rel (k + 4) (nI R, nI C, nI (R + C), nI (R * C), nI h, nI pl, f_ready, f_found, f_number, f_allOnes, f_anyOnes, a_rowOf, a_columnOf, a_pins, a_low, a_first, a_last, a_empty, a_kind, a_follow, a_turned, a_lineFirst, a_lineLast, a_lineEmpty, a_lineZeros, a_lineOnes, a_lineFollow, a_back, a_digit, a_tried, a_rowSet, a_columnSet) v') (nI h, nI R, nI C, y_stack, y_lc, y_lines, y_pins) v1 := by
      unfold wpY_freeLine
      dsimp only
      exact cy_isLineF hrc hn (br_t rfl ⟨rfl, I4⟩)
    rcases hv with a | ⟨a, b⟩
    · exact br_t a hy
    · exact br_f a (br_f b hy)
theorem i_vc_setLine {k : Nat} {u : SX} {v : SY} (I : i_Rel k u v) (hk : k + 4 ≤ 2050) (v1 : Int32) : wpX_setLine (fun r u' => wpY_setLine (fun r' v' => r' = r ∧ i_Rel (k + 4) u' v') v v1) u v1 := by
  refine cw_el (P := fun u v => wpX_setLine (fun r u' => wpY_setLine (fun r' v' => r' = r ∧ i_Rel (k + 4) u' v') v v1) u v1) ?_ I
  intro R C h pl lo f_ready f_found f_number f_allOnes f_anyOnes a_rowOf a_columnOf a_pins a_low a_first a_last a_empty a_kind a_follow a_turned a_lineFirst a_lineLast a_lineEmpty a_lineZeros a_lineOnes a_lineFollow a_back a_digit a_tried a_rowSet a_columnSet y_stack y_lc y_lines y_pins hrc hpl hro hpn hst hls hbk I0
  have I4 := i_up I0
  have hR := hrc
  obtain ⟨r1, r2, r3, r4⟩ := hR
  subst hpl
  rcases cw_lineC v1 (L := R + C) (by omega) with ⟨l, hl, rfl⟩ | ⟨hn, hv⟩
  · by_cases h0 : h = 0
    · subst h0
      refine br_f (nI_pos (by omega)) (br_t (nI_lt hl (by omega)) (br_f (by decide) ?_))
      unfold wpY_setLine
      dsimp only
      exact cy_isLineT hrc hl (br_f (by decide) (br_t rfl ⟨rfl, I4⟩))
    obtain ⟨x, rfl⟩ : ∃ x, h = x + 1 := ⟨h - 1, by omega⟩
    have h6 := hst.1
    have h8 := hst.2.2.1
    obtain ⟨m1, l1, c1, t1⟩ := hst.2.2.2 x (by omega)
    refine cx_setLine hl (by omega) h6 m1 h8 l1 (fun le z o f g1 g2 g3 g4 g5 g6 => ?_)
    have e1 : nI (x + 1) - 1 = nI x := cw_s1 (by omega)
    unfold wpY_setLine
    dsimp only
    refine cy_isLineT hrc hl (br_f (by decide) (br_f (cw_ne (b := 0) (by omega) (by omega) (by omega)) (nm_r e1 ⟨vp_in_nI (by omega) (by omega), vp_in_nI (by omega) (by omega), nm_e ⟨rfl, cw_in (lo := lo) hrc rfl hro hpn (cw_STpop hst) ?_ (Or.inl rfl)⟩⟩)))
    rw [nI_clamp (n := l) (by omega), nI_clamp (n := x) (by omega)]
    refine cw_LSu hls (l := l) (fun i hi => ⟨pk_un hi, pk_un hi, g2 i hi, g4 i hi, pk_un hi⟩) g6 ?_
    rw [pk_us, pk_us, pk_us]
    exact cw_LNset h8 t1 g1 g3 g5 m1
  · have hy : wpY_setLine (fun r' v' => r' = -1 ∧ i_Rel (k + 4) (nI R, nI C, nI (R + C), nI (R * C), nI h, nI (lo h), f_ready, f_found, f_number, f_allOnes, f_anyOnes, a_rowOf, a_columnOf, a_pins, a_low, a_first, a_last, a_empty, a_kind, a_follow, a_turned, a_lineFirst, a_lineLast, a_lineEmpty, a_lineZeros, a_lineOnes, a_lineFollow, a_back, a_digit, a_tried, a_rowSet, a_columnSet) v') (nI h, nI R, nI C, y_stack, y_lc, y_lines, y_pins) v1 := by
      unfold wpY_setLine
      dsimp only
      exact cy_isLineF hrc hn (br_t rfl ⟨rfl, I4⟩)
    rcases hv with a | ⟨a, b⟩
    · exact br_t a hy
    · exact br_f a (br_f b hy)
theorem i_vc_pinned {k : Nat} {u : SX} {v : SY} (I : i_Rel k u v) (hk : k + 4 ≤ 2050) (v1 : Int32) (v2 : Int32) : wpX_pinned (fun r => wpY_pinned (fun r' => r' = r ∧ i_Rel (k + 4) u v) v v1 v2) u v1 v2 := by
  refine cw_el (P := fun u v => wpX_pinned (fun r => wpY_pinned (fun r' => r' = r ∧ i_Rel (k + 4) u v) v v1 v2) u v1 v2) ?_ I
  intro R C h pl lo f_ready f_found f_number f_allOnes f_anyOnes a_rowOf a_columnOf a_pins a_low a_first a_last a_empty a_kind a_follow a_turned a_lineFirst a_lineLast a_lineEmpty a_lineZeros a_lineOnes a_lineFollow a_back a_digit a_tried a_rowSet a_columnSet y_stack y_lc y_lines y_pins hrc hpl hro hpn hst hls hbk I0
  have I4 := i_up I0
  have hR := hrc
  obtain ⟨r1, r2, r3, r4⟩ := hR
  by_cases hin : ∃ r c, r < R ∧ c < C ∧ v1 = nI r ∧ v2 = nI c
  · obtain ⟨r, c, hr, hc, rfl, rfl⟩ := hin
    have e : nI r * 4 + nI c = nI (r * 4 + c) := by
      show nI r * nI 4 + nI c = _
      rw [pk_mul, nI_add]
    refine cx_pinned hrc hr hc ?_
    unfold wpY_pinned
    dsimp only
    refine cy_isCellT hrc hr hc (br_f (by decide) ?_)
    rw [e, nI_clamp (by omega)]
    exact ⟨vp_in_nI (by omega) (by omega), (hpn r c hr hc).symm, I4⟩
  · unfold wpX_pinned
    dsimp only
    refine cx_inGridF hrc hin (br_t rfl ?_)
    unfold wpY_pinned
    dsimp only
    exact cy_isCellF hrc hin (br_t rfl ⟨rfl, I4⟩)
theorem i_vc_pin {k : Nat} {u : SX} {v : SY} (I : i_Rel k u v) (hk : k + 4 ≤ 2050) (v1 : Int32) (v2 : Int32) (v3 : Int32) : wpX_pin (fun r u' => wpY_pin (fun r' v' => r' = r ∧ i_Rel (k + 4) u' v') v v1 v2 v3) u v1 v2 v3 := by
  refine cw_el (P := fun u v => wpX_pin (fun r u' => wpY_pin (fun r' v' => r' = r ∧ i_Rel (k + 4) u' v') v v1 v2 v3) u v1 v2 v3) ?_ I
  intro R C h pl lo f_ready f_found f_number f_allOnes f_anyOnes a_rowOf a_columnOf a_pins a_low a_first a_last a_empty a_kind a_follow a_turned a_lineFirst a_lineLast a_lineEmpty a_lineZeros a_lineOnes a_lineFollow a_back a_digit a_tried a_rowSet a_columnSet y_stack y_lc y_lines y_pins hrc hpl hro hpn hst hls hbk I0
  have I4 := i_up I0
  have hR := hrc
  obtain ⟨r1, r2, r3, r4⟩ := hR
  by_cases hin : ∃ r c, r < R ∧ c < C ∧ v1 = nI r ∧ v2 = nI c
  · obtain ⟨r, c, hr, hc, rfl, rfl⟩ := hin
    by_cases a : v3 < 0
    · unfold wpX_pin
      dsimp only
      refine cx_inGridT hrc hr hc (br_f (by decide) (br_t a ?_))
      unfold wpY_pin
      dsimp only
      exact cy_isCellT hrc hr hc (br_f (by decide) (br_t a ⟨rfl, I4⟩))
    by_cases b : v3 ≤ 2
    · have e : nI r * 4 + nI c = nI (r * 4 + c) := by
        show nI r * nI 4 + nI c = _
        rw [pk_mul, nI_add]
      have hv : vp_in (nI (r * 4 + c)) 12 := vp_in_nI (by omega) (by omega)
      refine cx_pin hrc hr hc a b ?_
      unfold wpY_pin
      dsimp only
      refine cy_isCellT hrc hr hc (br_f (by decide) (br_f a (br_t b ?_)))
      rw [e, nI_clamp (by omega)]
      refine ⟨hv, nm_e ⟨hv, nm_e ⟨(hpn r c hr hc).symm, cw_in (lo := lo) hrc hpl hro (fun r' c' hr' hc' => ?_) hst hls (Or.inl rfl)⟩⟩⟩
      by_cases z : r' * C + c' = r * C + c
      · have e1 : r' = r := by
          have z1 := congrArg (· / C) z
          rw [(cw_dc hc').1, (cw_dc hc).1] at z1
          exact z1
        have e2 : c' = c := by
          have z1 := congrArg (· % C) z
          rw [(cw_dc hc').2, (cw_dc hc).2] at z1
          exact z1
        rw [e1, e2, pk_us, pk_us]
      · have y : r' * 4 + c' ≠ r * 4 + c := by
          intro y
          have y1 : r' = r := by omega
          have y2 : c' = c := by omega
          rw [y1, y2] at z
          exact z rfl
        rw [pk_un z, pk_un y]
        exact hpn r' c' hr' hc'
    · unfold wpX_pin
      dsimp only
      refine cx_inGridT hrc hr hc (br_f (by decide) (br_f a (br_f b ?_)))
      unfold wpY_pin
      dsimp only
      exact cy_isCellT hrc hr hc (br_f (by decide) (br_f a (br_f b ⟨rfl, I4⟩)))
  · unfold wpX_pin
    dsimp only
    refine cx_inGridF hrc hin (br_t rfl ?_)
    unfold wpY_pin
    dsimp only
    exact cy_isCellF hrc hin (br_t rfl ⟨rfl, I4⟩)
end
section
/-! ===== what is owed: questions ===== -/
theorem cw_cnend {P : Nat → Prop} {M j : Nat} (hM : M ≤ 4096) (hj : j < M) (e : nI (cw_cn P j) + 1 = 4096) : j + 1 = M := by
  have h := cw_cnle P j
  rw [nI_1] at e
  have := (nI_eq (b := 4096) (by omega) (by omega)).mp e
  omega
theorem cw_cnstop {P : Nat → Prop} {j : Nat} : ∀ {M : Nat}, j ≤ M → (∀ i, j ≤ i → i < M → ¬ P i) → cw_cn P M = cw_cn P j
  | 0, a, _ => by rw [Nat.le_zero.mp a]
  | M + 1, a, b => by
    by_cases z : j = M + 1
    · rw [z]
    · rw [cw_cnF (b M (by omega) (by omega)), cw_cnstop (M := M) (by omega) (fun i h1 h2 => b i h1 (by omega))]
theorem cw_cnpos {P : Nat → Prop} : ∀ {M : Nat}, cw_cn P M ≠ 0 → ∃ j, j < M ∧ P j
  | 0, a => absurd rfl a
  | M + 1, a => by
    by_cases z : P M
    · exact ⟨M, by omega, z⟩
    · rw [cw_cnF z] at a
      obtain ⟨j, hj, hp⟩ := cw_cnpos a
      exact ⟨j, by omega, hp⟩
theorem cw_cnin {P : Nat → Prop} {M j : Nat} (hj : j < M) (hp : P j) : cw_cn P M ≠ 0 := by
  have h := cw_cnmono P (show j + 1 ≤ M from hj)
  rw [cw_cnT hp] at h
  omega
theorem i_vc_fillings {k : Nat} {u : SX} {v : SY} (I : i_Rel k u v) (hk : k + 4 ≤ 2050) : wpX_fillings (fun r u' => wpY_fillings (fun r' => r' = r ∧ i_Rel (k + 4) u' v) v) u := by
  refine cw_el (P := fun u v => wpX_fillings (fun r u' => wpY_fillings (fun r' => r' = r ∧ i_Rel (k + 4) u' v) v) u) ?_ I
  intro R C h pl lo f_ready f_found f_number f_allOnes f_anyOnes a_rowOf a_columnOf a_pins a_low a_first a_last a_empty a_kind a_follow a_turned a_lineFirst a_lineLast a_lineEmpty a_lineZeros a_lineOnes a_lineFollow a_back a_digit a_tried a_rowSet a_columnSet y_stack y_lc y_lines y_pins hrc hpl hro hpn hst hls hbk I0
  have I4 := i_up I0
  have h2 := cw_2N hrc
  unfold wpX_fillings
  dsimp only
  refine cx_scan (Q := fun j fo _ _ _ => fo = nI (cw_cn (cw_FY R C y_pins y_lines) j)) (Z := fun fo _ _ _ => fo = nI (cw_cn (cw_FY R C y_pins y_lines) (2 ^ (R * C)))) hrc hro hbk hls hpn (by decide) ⟨?_, ?_, ?_, ?_⟩ rfl (fun _ _ _ _ h => h) (fun rd bk fo nu al an dg tr rs cs hB hz => ?_)
  · intro j fo nu al an hj hF hq
    rw [cw_cnF hF]; exact hq
  · intro j fo nu al an hj hF hq hb hs
    subst hq
    have e := cw_cnend h2.2 hj hs
    rw [nI_1, ← e, cw_cnT hF]
  · intro j fo nu al an hj hF hq hb hs
    subst hq
    rw [nI_1, cw_cnT hF]
  · intro j fo nu al an hj hF hq hb
    exact absurd (nI_lt (b := 4096) (by omega) (by omega)) hb
  · dsimp only
    exact cy_fillings hrc ⟨hz.symm, cw_in (lo := lo) hrc hpl hro hpn hst hls (Or.inr hB)⟩
theorem i_vc_below {k : Nat} {u : SX} {v : SY} (I : i_Rel k u v) (hk : k + 4 ≤ 2050) (v1 : Int32) : wpX_below (fun r u' => wpY_below (fun r' => r' = r ∧ i_Rel (k + 4) u' v) v v1) u v1 := by
  refine cw_el (P := fun u v => wpX_below (fun r u' => wpY_below (fun r' => r' = r ∧ i_Rel (k + 4) u' v) v v1) u v1) ?_ I
  intro R C h pl lo f_ready f_found f_number f_allOnes f_anyOnes a_rowOf a_columnOf a_pins a_low a_first a_last a_empty a_kind a_follow a_turned a_lineFirst a_lineLast a_lineEmpty a_lineZeros a_lineOnes a_lineFollow a_back a_digit a_tried a_rowSet a_columnSet y_stack y_lc y_lines y_pins hrc hpl hro hpn hst hls hbk I0
  have I4 := i_up I0
  have h2 := cw_2N hrc
  unfold wpX_below
  dsimp only
  refine cx_scan (Q := fun j fo _ _ _ => fo = nI (cw_cn (fun j => nI j < v1 ∧ cw_FY R C y_pins y_lines j) j)) (Z := fun fo _ _ _ => fo = nI (cw_cn (fun j => nI j < v1 ∧ cw_FY R C y_pins y_lines j) (2 ^ (R * C)))) hrc hro hbk hls hpn (by decide) ⟨?_, ?_, ?_, ?_⟩ rfl (fun _ _ _ _ h => h) (fun rd bk fo nu al an dg tr rs cs hB hz => ?_)
  · intro j fo nu al an hj hF hq
    rw [cw_cnF (fun t => hF t.2)]; exact hq
  · intro j fo nu al an hj hF hq hb hs
    subst hq
    have e := cw_cnend h2.2 hj hs
    rw [nI_1, ← e, cw_cnT ⟨hb, hF⟩]
  · intro j fo nu al an hj hF hq hb hs
    subst hq
    rw [nI_1, cw_cnT ⟨hb, hF⟩]
  · intro j fo nu al an hj hF hq hb
    subst hq
    rw [cw_cnstop (Nat.le_of_lt hj) (fun i h3 h4 h5 => hb (Int32.lt_of_le_of_lt (nI_le h3 (by omega)) h5.1))]
  · dsimp only
    exact cy_below hrc ⟨hz.symm, cw_in (lo := lo) hrc hpl hro hpn hst hls (Or.inr hB)⟩
theorem i_vc_filling {k : Nat} {u : SX} {v : SY} (I : i_Rel k u v) (hk : k + 4 ≤ 2050) (v1 : Int32) : wpX_filling (fun r u' => wpY_filling (fun r' => r' = r ∧ i_Rel (k + 4) u' v) v v1) u v1 := by
  refine cw_el (P := fun u v => wpX_filling (fun r u' => wpY_filling (fun r' => r' = r ∧ i_Rel (k + 4) u' v) v v1) u v1) ?_ I
  intro R C h pl lo f_ready f_found f_number f_allOnes f_anyOnes a_rowOf a_columnOf a_pins a_low a_first a_last a_empty a_kind a_follow a_turned a_lineFirst a_lineLast a_lineEmpty a_lineZeros a_lineOnes a_lineFollow a_back a_digit a_tried a_rowSet a_columnSet y_stack y_lc y_lines y_pins hrc hpl hro hpn hst hls hbk I0
  have I4 := i_up I0
  have h2 := cw_2N hrc
  by_cases a : 0 ≤ v1
  · obtain ⟨n, hn, rfl⟩ := nI_of (Int32.not_lt.mpr a)
    by_cases b : n < 4096
    · unfold wpX_filling
      dsimp only
      refine br_t a (br_t (nI_lt (b := 4096) b (by omega)) ?_)
      rw [nI_1]
      refine cx_scan (Q := fun j fo _ _ _ => fo = nI (cw_cn (cw_FY R C y_pins y_lines) j) ∧ cw_cn (cw_FY R C y_pins y_lines) j ≤ n) (Z := fun fo nu _ _ => (fo = nI (n + 1) ∧ ∃ j, j < (2 ^ (R * C)) ∧ cw_FY R C y_pins y_lines j ∧ cw_cn (cw_FY R C y_pins y_lines) j = n ∧ nu = nI j) ∨ (fo = nI (cw_cn (cw_FY R C y_pins y_lines) (2 ^ (R * C))) ∧ cw_cn (cw_FY R C y_pins y_lines) (2 ^ (R * C)) ≤ n)) hrc hro hbk hls hpn ?_ ⟨?_, ?_, ?_, ?_⟩ ⟨rfl, Nat.zero_le _⟩ (fun _ _ _ _ h => Or.inr h) (fun rd bk fo nu al an dg tr rs cs hB hz => ?_)
      · exact nI_lt (a := 0) (by omega) (by omega)
      · intro j fo nu al an hj hF hq
        rw [cw_cnF hF]; exact hq
      · intro j fo nu al an hj hF hq hb hs
        obtain ⟨rfl, hc⟩ := hq
        rw [nI_1] at hs ⊢
        have hs' := (nI_eq (by omega) (by omega)).mp hs
        exact Or.inl ⟨hs, j, hj, hF, by omega, rfl⟩
      · intro j fo nu al an hj hF hq hb hs
        obtain ⟨rfl, hc⟩ := hq
        rw [nI_1] at hs ⊢
        rw [cw_cnT hF]
        refine ⟨rfl, ?_⟩
        have hs' : cw_cn (cw_FY R C y_pins y_lines) j ≠ n := fun t => hs (by rw [t])
        omega
      · intro j fo nu al an hj hF hq hb
        exact absurd (nI_lt (b := 4096) (by omega) (by omega)) hb
      · dsimp only
        have I5 : i_Rel (k + 4) (nI R, nI C, nI (R + C), nI (R * C), nI h, nI pl, rd, fo, nu, al, an, a_rowOf, a_columnOf, a_pins, a_low, a_first, a_last, a_empty, a_kind, a_follow, a_turned, a_lineFirst, a_lineLast, a_lineEmpty, a_lineZeros, a_lineOnes, a_lineFollow, bk, dg, tr, rs, cs) (nI h, nI R, nI C, y_stack, y_lc, y_lines, y_pins) := cw_in (lo := lo) hrc hpl hro hpn hst hls (Or.inr hB)
        rcases hz with ⟨rfl, j, hj, hF, hc, rfl⟩ | ⟨rfl, hc⟩
        · exact br_t rfl (cy_fillingS hrc hn hj hF hc ⟨rfl, I5⟩)
        · exact br_f (cw_ne (by omega) (by omega) (by omega)) (cy_fillingN hrc hn hc ⟨rfl, I5⟩)
    · have c : ¬ nI n < 4096 := nI_nlt (b := 4096) (by omega) hn
      have h3 := cw_cnle (cw_FY R C y_pins y_lines) (2 ^ (R * C))
      exact br_t a (br_f c (cy_fillingN hrc hn (by omega) ⟨rfl, I4⟩))
  · exact br_f a (br_f a ⟨rfl, I4⟩)
theorem cw_4095 : ∀ i, i < 12 → bt 4095 i = true := by decide +kernel
theorem i_vc_forced {k : Nat} {u : SX} {v : SY} (I : i_Rel k u v) (hk : k + 4 ≤ 2050) (v1 : Int32) (v2 : Int32) : wpX_forced (fun r u' => wpY_forced (fun r' => r' = r ∧ i_Rel (k + 4) u' v) v v1 v2) u v1 v2 := by
  refine cw_el (P := fun u v => wpX_forced (fun r u' => wpY_forced (fun r' => r' = r ∧ i_Rel (k + 4) u' v) v v1 v2) u v1 v2) ?_ I
  intro R C h pl lo f_ready f_found f_number f_allOnes f_anyOnes a_rowOf a_columnOf a_pins a_low a_first a_last a_empty a_kind a_follow a_turned a_lineFirst a_lineLast a_lineEmpty a_lineZeros a_lineOnes a_lineFollow a_back a_digit a_tried a_rowSet a_columnSet y_stack y_lc y_lines y_pins hrc hpl hro hpn hst hls hbk I0
  have I4 := i_up I0
  have h2 := cw_2N hrc
  have hN := cw_N12 hrc
  by_cases hin : ∃ r c, r < R ∧ c < C ∧ v1 = nI r ∧ v2 = nI c
  · obtain ⟨r, c, hr, hc, rfl, rfl⟩ := hin
    have hd := cw_rc hr hc
    have hbit : ∀ j, bt (nI j) (R * C - 1 - (r * C + c)) = true ↔ cw_dig (R * C) j (r * C + c) = 1 := by
      intro j
      rw [cw_btn (by omega), decide_eq_true_iff]
      exact Iff.rfl
    have hdl : ∀ j, cw_dig (R * C) j (r * C + c) < 2 := fun j => cw_digl _ _ _
    have eb : ((nI (R * C) - 1) - (nI r * nI C)) - nI c = nI (R * C - 1 - (r * C + c)) := by
      rw [cw_s1 hN.1, pk_mul, pk_sub (by omega), pk_sub (by omega)]
      exact congrArg nI (by omega)
    unfold wpX_forced
    dsimp only
    refine cx_inGridT hrc hr hc (br_f (by decide) ?_)
    have step : ∀ j (al an : Int32), cw_FY R C y_pins y_lines j → (bt al (R * C - 1 - (r * C + c)) = true ↔ ¬ cw_some (cw_FY R C y_pins y_lines) (R * C) (r * C + c) 0 j) → (bt an (R * C - 1 - (r * C + c)) = true ↔ cw_some (cw_FY R C y_pins y_lines) (R * C) (r * C + c) 1 j) → (bt (al &&& nI j) (R * C - 1 - (r * C + c)) = true ↔ ¬ cw_some (cw_FY R C y_pins y_lines) (R * C) (r * C + c) 0 (j + 1)) ∧ (bt (an ||| nI j) (R * C - 1 - (r * C + c)) = true ↔ cw_some (cw_FY R C y_pins y_lines) (R * C) (r * C + c) 1 (j + 1)) := by
      intro j al an hF h3 h4
      rw [cw_andT, cw_orT, hbit j, h3, h4]
      have h5 := hdl j
      by_cases z : cw_dig (R * C) j (r * C + c) = 1
      · rw [cw_someK (v := 0) (fun t => by omega)]
        exact ⟨⟨fun t => t.1, fun t => ⟨t, z⟩⟩, ⟨fun _ => cw_someS hF z, fun _ => Or.inr z⟩⟩
      · rw [cw_someK (v := 1) (fun t => z t.2)]
        exact ⟨⟨fun t => absurd t.2 z, fun t => absurd (cw_someS hF (show cw_dig (R * C) j (r * C + c) = 0 from by omega)) t⟩, ⟨fun t => t.elim id (fun y => absurd y z), Or.inl⟩⟩
    refine cx_scan (Q := fun j fo _ al an => fo = nI (cw_cn (cw_FY R C y_pins y_lines) j) ∧ (bt al (R * C - 1 - (r * C + c)) = true ↔ ¬ cw_some (cw_FY R C y_pins y_lines) (R * C) (r * C + c) 0 j) ∧ (bt an (R * C - 1 - (r * C + c)) = true ↔ cw_some (cw_FY R C y_pins y_lines) (R * C) (r * C + c) 1 j)) (Z := fun fo _ al an => fo = nI (cw_cn (cw_FY R C y_pins y_lines) (2 ^ (R * C))) ∧ (bt al (R * C - 1 - (r * C + c)) = true ↔ ¬ cw_some (cw_FY R C y_pins y_lines) (R * C) (r * C + c) 0 (2 ^ (R * C))) ∧ (bt an (R * C - 1 - (r * C + c)) = true ↔ cw_some (cw_FY R C y_pins y_lines) (R * C) (r * C + c) 1 (2 ^ (R * C)))) hrc hro hbk hls hpn (by decide) ⟨?_, ?_, ?_, ?_⟩ ⟨rfl, ?_, ?_⟩ (fun _ _ _ _ h => h) (fun rd bk fo nu al an dg tr rs cs hB hz => ?_)
    · intro j fo nu al an hj hF hq
      rw [cw_cnF hF, cw_someK (v := 0) (fun t => hF t.1), cw_someK (v := 1) (fun t => hF t.1)]
      exact hq
    · intro j fo nu al an hj hF hq hb hs
      obtain ⟨rfl, q1, q2⟩ := hq
      have e := cw_cnend h2.2 hj hs
      rw [nI_1, ← e, cw_cnT hF]
      exact ⟨rfl, step j al an hF q1 q2⟩
    · intro j fo nu al an hj hF hq hb hs
      obtain ⟨rfl, q1, q2⟩ := hq
      rw [nI_1, cw_cnT hF]
      exact ⟨rfl, step j al an hF q1 q2⟩
    · intro j fo nu al an hj hF hq hb
      exact absurd (nI_lt (b := 4096) (by omega) (by omega)) hb
    · exact ⟨fun _ ⟨i, t, _⟩ => absurd t (Nat.not_lt_zero _), fun _ => cw_4095 _ (by omega)⟩
    · exact ⟨fun t => absurd t cw_0T, fun ⟨i, t, _⟩ => absurd t (Nat.not_lt_zero _)⟩
    · dsimp only
      obtain ⟨rfl, q1, q2⟩ := hz
      have I5 : i_Rel (k + 4) (nI R, nI C, nI (R + C), nI (R * C), nI h, nI pl, rd, nI (cw_cn (cw_FY R C y_pins y_lines) (2 ^ (R * C))), nu, al, an, a_rowOf, a_columnOf, a_pins, a_low, a_first, a_last, a_empty, a_kind, a_follow, a_turned, a_lineFirst, a_lineLast, a_lineEmpty, a_lineZeros, a_lineOnes, a_lineFollow, bk, dg, tr, rs, cs) (nI h, nI R, nI C, y_stack, y_lc, y_lines, y_pins) := cw_in (lo := lo) hrc hpl hro hpn hst hls (Or.inr hB)
      have hle := cw_cnle (cw_FY R C y_pins y_lines) (2 ^ (R * C))
      have some_any : ∀ v, cw_some (cw_FY R C y_pins y_lines) (R * C) (r * C + c) v (2 ^ (R * C)) → cw_cn (cw_FY R C y_pins y_lines) (2 ^ (R * C)) ≠ 0 := fun v ⟨i, t1, t2, _⟩ => cw_cnin t1 t2
      by_cases z : cw_cn (cw_FY R C y_pins y_lines) (2 ^ (R * C)) = 0
      · refine br_t (by rw [z]; rfl) ?_
        have n0 : ∀ v, ¬ cw_some (cw_FY R C y_pins y_lines) (R * C) (r * C + c) v (2 ^ (R * C)) := fun v t => some_any v t z
        exact cy_forced hrc hr hc (fun _ _ => ⟨rfl, I5⟩) (fun _ t => absurd t (n0 1)) (fun t _ => absurd t (n0 0)) (fun t _ => absurd t (n0 0))
      · refine br_f (cw_ne (b := 0) z (by omega) (by omega)) (nm_r eb ?_)
        obtain ⟨j, hj, hF⟩ := cw_cnpos z
        have h01 : cw_some (cw_FY R C y_pins y_lines) (R * C) (r * C + c) 0 (2 ^ (R * C)) ∨ cw_some (cw_FY R C y_pins y_lines) (R * C) (r * C + c) 1 (2 ^ (R * C)) := by
          have h5 := hdl j
          by_cases y : cw_dig (R * C) j (r * C + c) = 1
          · exact Or.inr ⟨j, hj, hF, y⟩
          · exact Or.inl ⟨j, hj, hF, by omega⟩
        refine cw_if ((cw_test (by omega)).trans q1) (fun y0 => ?_) (fun y0 => cw_if ((cw_test (by omega)).trans q2) (fun y1 => ?_) (fun y1 => ?_))
        · have o1 := h01.elim (fun t => absurd t y0) id
          exact cy_forced hrc hr hc (fun _ t => absurd o1 t) (fun _ _ => ⟨rfl, I5⟩) (fun t _ => absurd t y0) (fun t _ => absurd t y0)
        · exact cy_forced hrc hr hc (fun t _ => absurd t y0) (fun t _ => absurd t y0) (fun _ t => absurd y1 t) (fun _ _ => ⟨rfl, I5⟩)
        · exact cy_forced hrc hr hc (fun t _ => absurd t y0) (fun t _ => absurd t y0) (fun _ _ => ⟨rfl, I5⟩) (fun _ t => absurd t y1)
  · unfold wpX_forced
    dsimp only
    refine cx_inGridF hrc hin (br_t rfl ?_)
    unfold wpY_forced
    dsimp only
    exact cy_isCellF hrc hin (br_t rfl ⟨rfl, I4⟩)
theorem i_vc_lineWords {k : Nat} {u : SX} {v : SY} (I : i_Rel k u v) (hk : k + 4 ≤ 2050) (v1 : Int32) : wpX_lineWords (fun r u' => wpY_lineWords (fun r' => r' = r ∧ i_Rel (k + 4) u' v) v v1) u v1 := by
  refine cw_el (P := fun u v => wpX_lineWords (fun r u' => wpY_lineWords (fun r' => r' = r ∧ i_Rel (k + 4) u' v) v v1) u v1) ?_ I
  intro R C h pl lo f_ready f_found f_number f_allOnes f_anyOnes a_rowOf a_columnOf a_pins a_low a_first a_last a_empty a_kind a_follow a_turned a_lineFirst a_lineLast a_lineEmpty a_lineZeros a_lineOnes a_lineFollow a_back a_digit a_tried a_rowSet a_columnSet y_stack y_lc y_lines y_pins hrc hpl hro hpn hst hls hbk I0
  have I4 := i_up I0
  have hR := hrc
  obtain ⟨r1, r2, r3, r4⟩ := hR
  rcases cw_lineC v1 (L := R + C) (by omega) with ⟨l, hl, rfl⟩ | ⟨hn, hv⟩
  · exact cx_lineWords hrc hl hbk hls hpn (fun rd bk hB => cy_lineWords hrc hl ⟨rfl, cw_in (lo := lo) hrc hpl hro hpn hst hls (Or.inr hB)⟩)
  · have hy : wpY_lineWords (fun r' => r' = -1 ∧ i_Rel (k + 4) (nI R, nI C, nI (R + C), nI (R * C), nI h, nI pl, f_ready, f_found, f_number, f_allOnes, f_anyOnes, a_rowOf, a_columnOf, a_pins, a_low, a_first, a_last, a_empty, a_kind, a_follow, a_turned, a_lineFirst, a_lineLast, a_lineEmpty, a_lineZeros, a_lineOnes, a_lineFollow, a_back, a_digit, a_tried, a_rowSet, a_columnSet) (nI h, nI R, nI C, y_stack, y_lc, y_lines, y_pins)) (nI h, nI R, nI C, y_stack, y_lc, y_lines, y_pins) v1 := by
      unfold wpY_lineWords
      dsimp only
      exact cy_isLineF hrc hn (br_t rfl ⟨rfl, I4⟩)
    rcases hv with a | ⟨a, b⟩
    · exact br_t a hy
    · exact br_f a (br_f b hy)
end
