section
/-! rows pasted from the kit's rows to paste (a starting text): stores, nI and lN arithmetic, bits -/
theorem pk_us {f : Nat → Int32} {k : Nat} {x : Int32} : upd f k x k = x := if_pos rfl
theorem pk_un {f : Nat → Int32} {k j : Nat} {x : Int32} (h : j ≠ k) : upd f k x j = f j := if_neg h
theorem pk_uLs {f : Nat → Int64} {k : Nat} {x : Int64} : vp_updL f k x k = x := if_pos rfl
theorem pk_uLn {f : Nat → Int64} {k j : Nat} {x : Int64} (h : j ≠ k) : vp_updL f k x j = f j := if_neg h
theorem pk_sub {a b : Nat} (h : b ≤ a) : nI a - nI b = nI (a - b) := by
  obtain ⟨c, rfl⟩ : ∃ c, a = c + b := ⟨a - b, by omega⟩
  rw [← nI_add, Int32.add_sub_cancel, Nat.add_sub_cancel]
theorem pk_m1 (n : Nat) : nI (n + 1) + (-1) = nI n := by
  rw [← nI_1, Int32.add_assoc, show (1 : Int32) + (-1) = 0 from rfl, Int32.add_zero]
theorem pk_mul (a b : Nat) : nI a * nI b = nI (a * b) := (Int32.ofNat_mul a b).symm
theorem pk_div {a d : Nat} (ha : a < 2 ^ 31) (h0 : 0 < d) (hd : d < 2 ^ 31) : nI a / nI d = nI (a / d) := by
  apply Int32.toInt_inj.mp
  rw [lg_idiv_nonneg (by rw [nI_toInt ha]; omega) (by rw [nI_toInt hd]; omega), nI_toInt ha, nI_toInt hd, nI_toInt (Nat.lt_of_le_of_lt (Nat.div_le_self a d) ha)]
  first | rfl | exact (Int.natCast_ediv _ _).symm
theorem pk_rem {a d : Nat} (ha : a < 2 ^ 31) (h0 : 0 < d) (hd : d < 2 ^ 31) : nI a - nI a / nI d * nI d = nI (a % d) := by
  rw [pk_div ha h0 hd, pk_mul, pk_sub (Nat.div_mul_le_self a d)]
  exact congrArg nI (by have := Nat.div_add_mod' a d; omega)
theorem pk_sub_toInt {a b : Nat} (ha : a < 2 ^ 30) (hb : b < 2 ^ 30) : (nI a - nI b).toInt = (a : Int) - b := by
  rw [Int32.toInt_sub, nI_toInt (by omega), nI_toInt (by omega)]
  exact Int.bmod_eq_of_le (by omega) (by omega)
theorem pk_sneg {a b : Nat} (hb : b < 2 ^ 30) (h : a < b) : nI a - nI b < 0 := by
  rw [Int32.lt_iff_toInt_lt, pk_sub_toInt (by omega) hb, show (0 : Int32).toInt = 0 from by decide]
  omega
theorem pk_ix (x : Int32) {n : Nat} (hn : n < 2 ^ 31) : x < 0 ∨ nI n ≤ x ∨ ∃ j : Nat, j < n ∧ x = nI j := by
  by_cases h : x < 0
  · exact Or.inl h
  · obtain ⟨j, hj, rfl⟩ := nI_of h
    by_cases h2 : j < n
    · exact Or.inr (Or.inr ⟨j, h2, rfl⟩)
    · exact Or.inr (Or.inl (nI_le (by omega) hj))
theorem pk_le {x y : Int32} {A B : Prop} (a b : Nat) (f : a ≤ b → A) (g : b < a → B) (hx : x = nI a := by rfl) (hy : y = nI b := by rfl) (ha : a < 2 ^ 31 := by omega) (hb : b < 2 ^ 31 := by omega) : (x ≤ y → A) ∧ (¬ x ≤ y → B) := by
  subst hx hy
  rw [nI_leI ha hb]
  exact ⟨f, fun z => g (by omega)⟩
theorem pk_lt {x y : Int32} {A B : Prop} (a b : Nat) (f : a < b → A) (g : b ≤ a → B) (hx : x = nI a := by rfl) (hy : y = nI b := by rfl) (ha : a < 2 ^ 31 := by omega) (hb : b < 2 ^ 31 := by omega) : (x < y → A) ∧ (¬ x < y → B) := by
  subst hx hy
  rw [nI_ltI ha hb]
  exact ⟨f, fun z => g (by omega)⟩
theorem pk_eq {x y : Int32} {A B : Prop} (a b : Nat) (f : a = b → A) (g : a ≠ b → B) (hx : x = nI a := by rfl) (hy : y = nI b := by rfl) (ha : a < 2 ^ 31 := by omega) (hb : b < 2 ^ 31 := by omega) : (x = y → A) ∧ (¬ x = y → B) := by
  subst hx hy
  rw [nI_eq ha hb]
  exact ⟨f, g⟩
theorem pk_in {x : Int32} (n N : Nat) (h : n < N) (hx : x = nI n := by rfl) (hN : N < 2 ^ 31 := by omega) : vp_in x N := by
  subst hx
  exact vp_in_nI h hN
theorem pk_cl {x : Int32} (n : Nat) (hx : x = nI n := by rfl) (h : n < 2 ^ 31 := by omega) : x.toNatClampNeg = n := by
  subst hx
  exact nI_clamp h
theorem pk_tn {n : Nat} (h : n < 2 ^ 32) : (nI n).toBitVec.toNat = n := Nat.mod_eq_of_lt h
theorem pk_and (x : Int32) {m : Int32} (k : Nat) (hm : m.toBitVec.toNat = 2 ^ k - 1) : x &&& m = nI (x.toBitVec.toNat % 2 ^ k) := by
  apply Int32.toBitVec_inj.mp
  apply BitVec.eq_of_toNat_eq
  rw [Int32.toBitVec_and, BitVec.toNat_and, hm, Nat.and_two_pow_sub_one_eq_mod]
  show _ = (BitVec.ofNat 32 _).toNat
  rw [BitVec.toNat_ofNat]
  exact (Nat.mod_eq_of_lt (Nat.lt_of_le_of_lt (Nat.mod_le _ _) x.toBitVec.isLt)).symm
theorem pk_andN {n : Nat} (h : n < 2 ^ 32) {m : Int32} (k : Nat) (hm : m.toBitVec.toNat = 2 ^ k - 1) : nI n &&& m = nI (n % 2 ^ k) := by
  rw [pk_and _ k hm, pk_tn h]
theorem pk_andE (x : Int32) {m : Int32} (k : Nat) (hm : m.toBitVec.toNat = 2 ^ k - 1) : ∃ j : Nat, j < 2 ^ k ∧ x &&& m = nI j := ⟨_, Nat.mod_lt _ (Nat.two_pow_pos k), pk_and x k hm⟩
theorem pk_andIn (x : Int32) {m : Int32} (k : Nat) (hm : m.toBitVec.toNat = 2 ^ k - 1) (hk : k ≤ 30) : vp_in (x &&& m) (2 ^ k) := by
  obtain ⟨j, hj, e⟩ := pk_andE x k hm
  rw [e]
  exact vp_in_nI hj (Nat.lt_of_le_of_lt (Nat.pow_le_pow_right (by decide) hk) (by decide))
theorem pk_shl (a s : Int32) (k : Nat) (hs : (s.toBitVec.smod 32).toNat = k) : (a <<< s).toBitVec.toNat = a.toBitVec.toNat * 2 ^ k % 2 ^ 32 := by
  show (a.toBitVec <<< (s.toBitVec.smod 32).toNat).toNat = _
  rw [hs, BitVec.toNat_shiftLeft, Nat.shiftLeft_eq]
theorem pk_shlN {n : Nat} (s : Int32) (k : Nat) (hs : (s.toBitVec.smod 32).toNat = k) (h : n * 2 ^ k < 2 ^ 32) : nI n <<< s = nI (n * 2 ^ k) := by
  apply Int32.toBitVec_inj.mp
  apply BitVec.eq_of_toNat_eq
  have hn : n < 2 ^ 32 := Nat.lt_of_le_of_lt (Nat.le_mul_of_pos_right n (Nat.two_pow_pos k)) h
  rw [pk_shl _ _ k hs, pk_tn hn, pk_tn h, Nat.mod_eq_of_lt h]
theorem pk_shr (a s : Int32) (k : Nat) (hs : (s.toBitVec.smod 32).toNat = k) : (a >>> s).toInt = a.toInt >>> k := by
  show (a.toBitVec.sshiftRight (s.toBitVec.smod 32).toNat).toInt = _
  rw [hs, BitVec.toInt_sshiftRight]
  rfl
theorem pk_shrN {n : Nat} (h : n < 2 ^ 31) (s : Int32) (k : Nat) (hs : (s.toBitVec.smod 32).toNat = k) : nI n >>> s = nI (n / 2 ^ k) := by
  apply Int32.toInt_inj.mp
  have h2 : n / 2 ^ k ≤ n := Nat.div_le_self _ _
  rw [pk_shr _ _ k hs, nI_toInt h, nI_toInt (by omega), Int.shiftRight_eq_div_pow]
  rfl
theorem pk_ushr (x s : Int32) (k : Nat) (hs : ((s.toUInt32 &&& Int32.toUInt32 31).toBitVec % 32).toNat = k) : (x.toUInt32 >>> (s.toUInt32 &&& Int32.toUInt32 31)).toInt32.toBitVec.toNat = x.toBitVec.toNat / 2 ^ k := by
  have e : (x.toUInt32 >>> (s.toUInt32 &&& Int32.toUInt32 31)).toInt32.toBitVec = x.toBitVec >>> k := by
    rw [← hs]
    exact UInt32.toBitVec_shiftRight _ _
  rw [e, BitVec.toNat_ushiftRight, Nat.shiftRight_eq_div_pow]
theorem pk_ushrN {n : Nat} (hn : n < 2 ^ 32) (s : Int32) (k : Nat) (hs : ((s.toUInt32 &&& Int32.toUInt32 31).toBitVec % 32).toNat = k) : ((nI n).toUInt32 >>> (s.toUInt32 &&& Int32.toUInt32 31)).toInt32 = nI (n / 2 ^ k) := by
  apply Int32.toBitVec_inj.mp
  apply BitVec.eq_of_toNat_eq
  rw [pk_ushr _ s k hs, pk_tn hn, pk_tn (Nat.lt_of_le_of_lt (Nat.div_le_self _ _) hn)]
theorem pk_lT {n : Nat} (h : n < 2 ^ 63) : (lN n).toInt = (n : Int) := lg_ofNat_toInt h
theorem pk_lLT {a b : Nat} (ha : a < 2 ^ 63) (hb : b < 2 ^ 63) : lN a < lN b ↔ a < b := by
  rw [Int64.lt_iff_toInt_lt, pk_lT ha, pk_lT hb]; omega
theorem pk_lLE {a b : Nat} (ha : a < 2 ^ 63) (hb : b < 2 ^ 63) : lN a ≤ lN b ↔ a ≤ b := by
  rw [Int64.le_iff_toInt_le, pk_lT ha, pk_lT hb]; omega
theorem pk_lEQ {a b : Nat} (ha : a < 2 ^ 63) (hb : b < 2 ^ 63) : lN a = lN b ↔ a = b := by
  rw [← Int64.toInt_inj, pk_lT ha, pk_lT hb]; omega
theorem pk_lOf {x : Int64} (h : ¬ x < 0) : ∃ k : Nat, k < 2 ^ 63 ∧ x = lN k := by
  rw [Int64.lt_iff_toInt_lt] at h
  have h0 : (0 : Int64).toInt = 0 := by decide
  have hx := Int64.toInt_lt x
  refine ⟨x.toInt.toNat, by omega, Int64.toInt_inj.mp ?_⟩
  rw [pk_lT (by omega)]
  omega
theorem pk_lDiv {a b : Nat} (ha : a < 2 ^ 63) (h0 : 0 < b) (hb : b < 2 ^ 63) : lN a / lN b = lN (a / b) := by
  apply Int64.toInt_inj.mp
  rw [lg_ldiv_nonneg (by rw [pk_lT ha]; omega) (by rw [pk_lT hb]; omega), pk_lT ha, pk_lT hb, pk_lT (Nat.lt_of_le_of_lt (Nat.div_le_self a b) ha)]
  rfl
theorem pk_lRem {a b : Nat} (ha : a < 2 ^ 63) (h0 : 0 < b) (hb : b < 2 ^ 63) : lN a - lN a / lN b * lN b = lN (a % b) := by
  rw [pk_lDiv ha h0 hb, lN_mul, lN_sub (Nat.div_mul_le_self a b)]
  exact congrArg lN (by have := Nat.div_add_mod' a b; omega)
theorem nx_and (a b : Nat) : nI a &&& nI b = nI (a &&& b) := by
  apply Int32.toBitVec_inj.1
  show BitVec.ofNat 32 a &&& BitVec.ofNat 32 b = BitVec.ofNat 32 (a &&& b)
  apply BitVec.eq_of_getLsbD_eq
  intro i hi
  simp [hi]
theorem nx_xor (a b : Nat) : nI a ^^^ nI b = nI (a ^^^ b) := by
  apply Int32.toBitVec_inj.1
  show BitVec.ofNat 32 a ^^^ BitVec.ofNat 32 b = BitVec.ofNat 32 (a ^^^ b)
  apply BitVec.eq_of_getLsbD_eq
  intro i hi
  simp [hi]
theorem nx_cnt : ∀ j : Fin 32, (UInt32.ofNat j.val &&& Int32.toUInt32 31).toNat % 32 = j.val := by decide +kernel
theorem nx_ush {k j : Nat} (hk : k < 65536) (hj : j < 32) : ((nI k).toUInt32 >>> ((nI j).toUInt32 &&& Int32.toUInt32 31)).toInt32 = nI (k >>> j) := by
  have hs : k >>> j ≤ k := by
    rw [Nat.shiftRight_eq_div_pow]
    exact Nat.div_le_self _ _
  have e2 : UInt32.ofNat k >>> (UInt32.ofNat j &&& Int32.toUInt32 31) = UInt32.ofNat (k >>> j) := by
    apply UInt32.toNat_inj.1
    have h1 : (UInt32.ofNat k).toNat = k := Nat.mod_eq_of_lt (by omega)
    have h2 : (UInt32.ofNat (k >>> j)).toNat = k >>> j := Nat.mod_eq_of_lt (by omega)
    rw [UInt32.toNat_shiftRight, nx_cnt ⟨j, hj⟩, h1, h2]
  show (UInt32.ofNat k >>> (UInt32.ofNat j &&& Int32.toUInt32 31)).toInt32 = _
  rw [e2]
  rfl
theorem nx_bit {k j : Nat} (hk : k < 65536) (hj : j < 16) : (((nI k).toUInt32 >>> ((nI j).toUInt32 &&& Int32.toUInt32 31)).toInt32 &&& 1) = 0 ↔ k.testBit j = false := by
  rw [nx_ush hk (by omega)]
  show nI (k >>> j) &&& nI 1 = 0 ↔ _
  rw [nx_and, Nat.and_one_is_mod, ← nI_0, nI_eq (by omega) (by omega), Nat.testBit_eq_decide_div_mod_eq, Nat.shiftRight_eq_div_pow, decide_eq_false_iff_not]
  generalize k / 2 ^ j = z
  omega
theorem nx_mod (k : Nat) : nI k &&& 65535 = nI (k % 65536) := by
  show nI k &&& nI 65535 = _
  rw [nx_and, show (65535 : Nat) = 2 ^ 16 - 1 from rfl, Nat.and_two_pow_sub_one_eq_mod]
theorem nx_m16 {k : Nat} (h : k < 65536) : nI k &&& 65535 = nI k := by rw [nx_mod, Nat.mod_eq_of_lt h]
theorem nx_mask (x : Int32) : ∃ k, k < 65536 ∧ x &&& 65535 = nI k := by
  have e : x = nI x.toBitVec.toNat := by
    apply Int32.toBitVec_inj.1
    show x.toBitVec = BitVec.ofNat 32 x.toBitVec.toNat
    simp
  refine ⟨x.toBitVec.toNat % 65536, Nat.mod_lt _ (by omega), ?_⟩
  rw [← nx_mod, ← e]
end
section
/-! counts, sums, and the weighted sum over worlds -/
noncomputable def lo_b (P : Prop) : Nat := @ite Nat P (Classical.propDecidable P) 1 0
theorem lo_bt {P : Prop} (h : P) : lo_b P = 1 := by unfold lo_b; rw [if_pos h]
theorem lo_bf {P : Prop} (h : ¬ P) : lo_b P = 0 := by unfold lo_b; rw [if_neg h]
theorem lo_bc {P Q : Prop} (h : P ↔ Q) : lo_b P = lo_b Q := by rw [propext h]
theorem lo_bn (P : Prop) : lo_b (¬ P) + lo_b P = 1 := by
  rcases Classical.em P with h | h
  · rw [lo_bt h, lo_bf (fun z => z h)]
  · rw [lo_bf h, lo_bt h]
theorem lo_band (P Q : Prop) : lo_b (P ∧ Q) = lo_b P * lo_b Q := by
  rcases Classical.em P with h | h
  · rcases Classical.em Q with g | g
    · rw [lo_bt h, lo_bt g, lo_bt ⟨h, g⟩]
    · rw [lo_bf g, lo_bf (fun z => g z.2), Nat.mul_zero]
  · rw [lo_bf h, lo_bf (fun z => h z.1), Nat.zero_mul]
/-- how many of the first n -/
def lo_c (C : Nat → Bool) : Nat → Nat
  | 0 => 0
  | n + 1 => lo_c C n + (C n).toNat
theorem lo_c_eq {C D : Nat → Bool} : ∀ {n : Nat}, (∀ i, i < n → C i = D i) → lo_c C n = lo_c D n
  | 0, _ => rfl
  | n + 1, h => by
    show lo_c C n + _ = lo_c D n + _
    rw [lo_c_eq (n := n) (fun i hi => h i (by omega)), h n (by omega)]
theorem lo_c_add {C A B : Nat → Bool} : ∀ {n : Nat}, (∀ i, i < n → (C i).toNat = (A i).toNat + (B i).toNat) → lo_c C n = lo_c A n + lo_c B n
  | 0, _ => rfl
  | n + 1, h => by
    show lo_c C n + _ = lo_c A n + _ + (lo_c B n + _)
    rw [lo_c_add (n := n) (fun i hi => h i (by omega)), h n (by omega)]
    omega
theorem lo_c_le {C D : Nat → Bool} : ∀ {n : Nat}, (∀ i, i < n → C i = true → D i = true) → lo_c C n ≤ lo_c D n
  | 0, _ => Nat.le_refl _
  | n + 1, h => by
    have a := lo_c_le (C := C) (D := D) (n := n) (fun i hi => h i (by omega))
    have b := h n (by omega)
    show lo_c C n + (C n).toNat ≤ lo_c D n + (D n).toNat
    cases hc : C n
    · simp; omega
    · rw [b hc]; omega
theorem lo_c_0 {C : Nat → Bool} : ∀ {n : Nat}, (∀ i, i < n → C i = false) → lo_c C n = 0
  | 0, _ => rfl
  | n + 1, h => by
    show lo_c C n + (C n).toNat = 0
    rw [lo_c_0 (n := n) (fun i hi => h i (by omega)), h n (by omega)]
    rfl
theorem lo_c_0' {C : Nat → Bool} : ∀ {n : Nat}, lo_c C n = 0 → ∀ i, i < n → C i = false
  | 0, _, i, hi => absurd hi (Nat.not_lt_zero i)
  | n + 1, h, i, hi => by
    have h' : lo_c C n + (C n).toNat = 0 := h
    rcases Nat.lt_or_ge i n with z | z
    · exact lo_c_0' (n := n) (by omega) i z
    · have e : i = n := by omega
      subst e
      cases hc : C i
      · rfl
      · rw [hc] at h'; simp at h'
theorem lo_c_bd (C : Nat → Bool) : ∀ n, lo_c C n ≤ n
  | 0 => Nat.le_refl _
  | n + 1 => by
    have := lo_c_bd C n
    have : (C n).toNat ≤ 1 := by cases C n <;> decide
    show lo_c C n + (C n).toNat ≤ n + 1
    omega
/-- one place is added -/
theorem lo_c_ins {C D : Nat → Bool} {j : Nat} (hC : C j = false) (hD : D j = true) : ∀ {n : Nat}, j < n → (∀ i, i < n → i ≠ j → C i = D i) → lo_c D n = lo_c C n + 1
  | 0, h, _ => absurd h (Nat.not_lt_zero j)
  | n + 1, h, e => by
    show lo_c D n + (D n).toNat = lo_c C n + (C n).toNat + 1
    rcases Nat.lt_or_ge j n with z | z
    · rw [lo_c_ins hC hD (n := n) z (fun i hi => e i (by omega)), e n (by omega) (by omega)]
      omega
    · have q : j = n := by omega
      subst q
      rw [hC, hD, lo_c_eq (C := D) (D := C) (n := j) (fun i hi => (e i (by omega) (by omega)).symm)]
      rfl
theorem lo_c_one {C : Nat → Bool} {j n : Nat} (hj : j < n) (h : C j = true) (h0 : ∀ i, i < n → i ≠ j → C i = false) : lo_c C n = 1 := by
  rw [lo_c_ins (C := fun _ => false) (D := C) (j := j) rfl h hj (fun i hi ne => (h0 i hi ne).symm), lo_c_0 (fun i _ => rfl)]
theorem lo_c_mono (C : Nat → Bool) {a b : Nat} (h : a ≤ b) : lo_c C a ≤ lo_c C b := by
  induction b with
  | zero => have : a = 0 := by omega
            subst this; exact Nat.le_refl _
  | succ b ih =>
    rcases Nat.lt_or_ge b a with z | z
    · have : a = b + 1 := by omega
      subst this; exact Nat.le_refl _
    · have := ih z
      show lo_c C a ≤ lo_c C b + (C b).toNat
      omega
theorem lo_c_lt (C : Nat → Bool) {a b : Nat} (h : a < b) (ha : C a = true) : lo_c C a < lo_c C b := by
  have := lo_c_mono C (show a + 1 ≤ b from h)
  have e : lo_c C (a + 1) = lo_c C a + 1 := by show lo_c C a + (C a).toNat = _; rw [ha]; rfl
  omega
/-- sums -/
def lo_S (g : Nat → Nat) : Nat → Nat
  | 0 => 0
  | n + 1 => lo_S g n + g n
theorem lo_S_eq {g h : Nat → Nat} : ∀ {n : Nat}, (∀ i, i < n → g i = h i) → lo_S g n = lo_S h n
  | 0, _ => rfl
  | n + 1, e => by
    show lo_S g n + _ = lo_S h n + _
    rw [lo_S_eq (n := n) (fun i hi => e i (by omega)), e n (by omega)]
theorem lo_S_add (g : Nat → Nat) (a : Nat) : ∀ b, lo_S g (a + b) = lo_S g a + lo_S (fun m => g (a + m)) b
  | 0 => rfl
  | b + 1 => by
    show lo_S g (a + b) + g (a + b) = lo_S g a + (lo_S (fun m => g (a + m)) b + g (a + b))
    rw [lo_S_add g a b, Nat.add_assoc]
theorem lo_S_mul (g : Nat → Nat) (c : Nat) : ∀ n, lo_S (fun m => g m * c) n = lo_S g n * c
  | 0 => (Nat.zero_mul c).symm
  | n + 1 => by
    show lo_S (fun m => g m * c) n + g n * c = (lo_S g n + g n) * c
    rw [lo_S_mul g c n, Nat.add_mul]
/-- a world with one row laid -/
def lo_st (ρ : Nat → Bool) (i : Nat) (b : Bool) : Nat → Bool := fun j => if j = i then b else ρ j
theorem lo_st_s {ρ : Nat → Bool} {i : Nat} {b : Bool} : lo_st ρ i b i = b := if_pos rfl
theorem lo_st_n {ρ : Nat → Bool} {i j : Nat} {b : Bool} (h : j ≠ i) : lo_st ρ i b j = ρ j := if_neg h
theorem lo_st_c {ρ : Nat → Bool} {i j : Nat} {b c : Bool} (h : i ≠ j) : lo_st (lo_st ρ i b) j c = lo_st (lo_st ρ j c) i b := by
  funext k
  by_cases h1 : k = j
  · subst h1
    rw [lo_st_s, lo_st_n (fun z => h z.symm), lo_st_s]
  · by_cases h2 : k = i
    · subst h2
      rw [lo_st_n h1, lo_st_s, lo_st_s]
    · rw [lo_st_n h1, lo_st_n h2, lo_st_n h2, lo_st_n h1]
def lo_Ind (P : (Nat → Bool) → Prop) (i : Nat) : Prop := ∀ ρ b, P (lo_st ρ i b) ↔ P ρ
/-- the sum of the weights (each a share of 10 to the n) of the worlds of the first n rows in which P holds -/
noncomputable def lo_E (w : Nat → Nat) (P : (Nat → Bool) → Prop) : Nat → (Nat → Bool) → Nat
  | 0, ρ => lo_b (P ρ)
  | n + 1, ρ => w n * lo_E w P n (lo_st ρ n true) + (10 - w n) * lo_E w P n (lo_st ρ n false)
theorem lo_E_s (w : Nat → Nat) (P : (Nat → Bool) → Prop) (n : Nat) (ρ : Nat → Bool) : lo_E w P (n + 1) ρ = w n * lo_E w P n (lo_st ρ n true) + (10 - w n) * lo_E w P n (lo_st ρ n false) := rfl
theorem lo_E_loc {w : Nat → Nat} {P Q : (Nat → Bool) → Prop} : ∀ n ρ, (∀ ρ' : Nat → Bool, (∀ i, n ≤ i → ρ' i = ρ i) → (P ρ' ↔ Q ρ')) → lo_E w P n ρ = lo_E w Q n ρ := by
  intro n
  induction n with
  | zero => intro ρ h; exact lo_bc (h ρ (fun _ _ => rfl))
  | succ n ih =>
    intro ρ h
    have k : ∀ c, lo_E w P n (lo_st ρ n c) = lo_E w Q n (lo_st ρ n c) := fun c => ih _ (fun ρ' h' => h ρ' (fun i hi => by rw [h' i (by omega), lo_st_n (by omega)]))
    rw [lo_E_s, lo_E_s, k, k]
theorem lo_E_eq {w : Nat → Nat} {P Q : (Nat → Bool) → Prop} (h : ∀ ρ, P ρ ↔ Q ρ) (n : Nat) (ρ : Nat → Bool) : lo_E w P n ρ = lo_E w Q n ρ := lo_E_loc n ρ (fun ρ' _ => h ρ')
theorem lo_E_w {w w' : Nat → Nat} {P : (Nat → Bool) → Prop} : ∀ n ρ, (∀ i, i < n → w i = w' i) → lo_E w P n ρ = lo_E w' P n ρ := by
  intro n
  induction n with
  | zero => intro ρ _; rfl
  | succ n ih =>
    intro ρ h
    rw [lo_E_s, lo_E_s, ih _ (fun i hi => h i (by omega)), ih _ (fun i hi => h i (by omega)), h n (by omega)]
theorem lo_E_not {w : Nat → Nat} {P : (Nat → Bool) → Prop} : ∀ n ρ, (∀ i, i < n → w i ≤ 10) → lo_E w (fun ρ => ¬ P ρ) n ρ + lo_E w P n ρ = 10 ^ n := by
  intro n
  induction n with
  | zero => intro ρ _; exact lo_bn _
  | succ n ih =>
    intro ρ h
    have a := ih (lo_st ρ n true) (fun i hi => h i (by omega))
    have b := ih (lo_st ρ n false) (fun i hi => h i (by omega))
    obtain ⟨v, hv⟩ : ∃ v, w n + v = 10 := ⟨10 - w n, by have := h n (by omega); omega⟩
    rw [lo_E_s, lo_E_s, show 10 - w n = v by omega, Nat.pow_succ]
    have e1 : w n * (10 ^ n) + v * (10 ^ n) = 10 ^ n * 10 := by rw [← Nat.add_mul, hv, Nat.mul_comm]
    rw [← e1]
    have e2 : w n * 10 ^ n = w n * lo_E w (fun ρ => ¬ P ρ) n (lo_st ρ n true) + w n * lo_E w P n (lo_st ρ n true) := by rw [← Nat.mul_add, a]
    have e3 : v * 10 ^ n = v * lo_E w (fun ρ => ¬ P ρ) n (lo_st ρ n false) + v * lo_E w P n (lo_st ρ n false) := by rw [← Nat.mul_add, b]
    omega
theorem lo_E_0 (w : Nat → Nat) : ∀ n ρ, lo_E w (fun _ => False) n ρ = 0 := by
  intro n
  induction n with
  | zero => intro ρ; exact lo_bf (fun z => z)
  | succ n ih => intro ρ; rw [lo_E_s, ih, ih]; rfl
theorem lo_E_1 {w : Nat → Nat} (n : Nat) (ρ : Nat → Bool) (h : ∀ i, i < n → w i ≤ 10) : lo_E w (fun _ => True) n ρ = 10 ^ n := by
  have a := lo_E_not (w := w) (P := fun _ => True) n ρ h
  have b : lo_E w (fun ρ => ¬ True) n ρ = 0 := by rw [← lo_E_0 w n ρ]; exact lo_E_eq (fun _ => ⟨fun z => z trivial, fun z => z.elim⟩) n ρ
  omega
theorem lo_E_le {w : Nat → Nat} {P : (Nat → Bool) → Prop} (n : Nat) (ρ : Nat → Bool) (h : ∀ i, i < n → w i ≤ 10) : lo_E w P n ρ ≤ 10 ^ n := by
  have := lo_E_not (P := P) n ρ h
  omega
theorem lo_E_st {w : Nat → Nat} {P : (Nat → Bool) → Prop} {i : Nat} (hi : lo_Ind P i) (b : Bool) : ∀ n ρ, n ≤ i → lo_E w P n (lo_st ρ i b) = lo_E w P n ρ := by
  intro n
  induction n with
  | zero => intro ρ _; exact lo_bc (hi ρ b)
  | succ n ih =>
    intro ρ h
    rw [lo_E_s, lo_E_s, lo_st_c (show i ≠ n by omega), lo_st_c (show i ≠ n by omega), ih _ (by omega), ih _ (by omega)]
theorem lo_E_skip {w : Nat → Nat} {P : (Nat → Bool) → Prop} {n : Nat} (hi : lo_Ind P n) (hw : w n ≤ 10) (ρ : Nat → Bool) : lo_E w P (n + 1) ρ = 10 * lo_E w P n ρ := by
  rw [lo_E_s, lo_E_st hi _ n ρ (Nat.le_refl _), lo_E_st hi _ n ρ (Nat.le_refl _), ← Nat.add_mul, show w n + (10 - w n) = 10 by omega]
theorem lo_ring1 {a b Ut Uf T p Qt Qf : Nat} (h1 : Ut * T = p * Qt) (h2 : Uf * T = p * Qf) : (a * Ut + b * Uf) * (T * 10) = 10 * p * (a * Qt + b * Qf) := by
  have e1 : a * Ut * T = p * (a * Qt) := by rw [Nat.mul_assoc, h1, Nat.mul_left_comm]
  have e2 : b * Uf * T = p * (b * Qf) := by rw [Nat.mul_assoc, h2, Nat.mul_left_comm]
  rw [← Nat.mul_assoc, Nat.add_mul, e1, e2, ← Nat.mul_add, Nat.mul_comm _ 10, Nat.mul_assoc]
theorem lo_E_mul {w : Nat → Nat} {P Q : (Nat → Bool) → Prop} : ∀ n ρ, (∀ i, i < n → w i ≤ 10) → (∀ i, i < n → lo_Ind P i ∨ lo_Ind Q i) → lo_E w (fun ρ => P ρ ∧ Q ρ) n ρ * 10 ^ n = lo_E w P n ρ * lo_E w Q n ρ := by
  intro n
  induction n with
  | zero => intro ρ _ _; show lo_b _ * 1 = lo_b _ * lo_b _; rw [lo_band, Nat.mul_one]
  | succ n ih =>
    intro ρ hw h
    have a := ih (lo_st ρ n true) (fun i hi => hw i (by omega)) (fun i hi => h i (by omega))
    have b := ih (lo_st ρ n false) (fun i hi => hw i (by omega)) (fun i hi => h i (by omega))
    rcases h n (by omega) with d | d
    · rw [lo_E_st d _ n ρ (Nat.le_refl _)] at a b
      rw [lo_E_skip d (hw n (by omega)), lo_E_s, lo_E_s, Nat.pow_succ]
      exact lo_ring1 a b
    · rw [lo_E_st d _ n ρ (Nat.le_refl _), Nat.mul_comm (lo_E w P _ _)] at a b
      rw [lo_E_skip d (hw n (by omega)), lo_E_s, lo_E_s, Nat.pow_succ, Nat.mul_comm (_ + _) (10 * _)]
      exact lo_ring1 a b
def lo_wu (w : Nat → Nat) (j a : Nat) : Nat → Nat := fun i => if i = j then a else w i
theorem lo_wu_s {w : Nat → Nat} {j a : Nat} : lo_wu w j a j = a := if_pos rfl
theorem lo_wu_n {w : Nat → Nat} {j a i : Nat} (h : i ≠ j) : lo_wu w j a i = w i := if_neg h
theorem lo_ring2 {a b p q X1 X0 Y1 Y0 X Y : Nat} (h1 : 10 * X = p * X1 + q * X0) (h2 : 10 * Y = p * Y1 + q * Y0) : 10 * (a * X + b * Y) = p * (a * X1 + b * Y1) + q * (a * X0 + b * Y0) := by
  have e1 : 10 * (a * X) = p * (a * X1) + q * (a * X0) := by rw [Nat.mul_left_comm, h1, Nat.mul_add, Nat.mul_left_comm, Nat.mul_left_comm a q]
  have e2 : 10 * (b * Y) = p * (b * Y1) + q * (b * Y0) := by rw [Nat.mul_left_comm, h2, Nat.mul_add, Nat.mul_left_comm, Nat.mul_left_comm b q]
  rw [Nat.mul_add, e1, e2, Nat.mul_add, Nat.mul_add]
  omega
/-- one row is decided -/
theorem lo_E_split {w : Nat → Nat} {P : (Nat → Bool) → Prop} {j : Nat} : ∀ n ρ, j < n → 10 * lo_E w P n ρ = w j * lo_E (lo_wu w j 10) P n ρ + (10 - w j) * lo_E (lo_wu w j 0) P n ρ := by
  intro n
  induction n with
  | zero => intro ρ h; exact absurd h (Nat.not_lt_zero j)
  | succ n ih =>
    intro ρ h
    rcases Nat.lt_or_ge j n with z | z
    · have a := ih (lo_st ρ n true) z
      have b := ih (lo_st ρ n false) z
      rw [lo_E_s, lo_E_s, lo_E_s, lo_wu_n (show n ≠ j by omega), lo_wu_n (show n ≠ j by omega)]
      exact lo_ring2 a b
    · have e : j = n := by omega
      subst e
      have k : ∀ c ρ, lo_E (lo_wu w j c) P j ρ = lo_E w P j ρ := fun c ρ => lo_E_w j ρ (fun i hi => lo_wu_n (by omega))
      rw [lo_E_s, lo_E_s, lo_E_s, lo_wu_s, lo_wu_s, k, k, k, k, Nat.mul_add, Nat.mul_left_comm, Nat.mul_left_comm 10 (10 - w j)]
      simp
/-- .. and is there as said -/
theorem lo_E_pin {w : Nat → Nat} {P : (Nat → Bool) → Prop} {j : Nat} : ∀ n ρ, j < n → 10 * lo_E w (fun ρ => ρ j = true ∧ P ρ) n ρ = w j * lo_E (lo_wu w j 10) P n ρ := by
  intro n
  induction n with
  | zero => intro ρ h; exact absurd h (Nat.not_lt_zero j)
  | succ n ih =>
    intro ρ h
    rcases Nat.lt_or_ge j n with z | z
    · have a := ih (lo_st ρ n true) z
      have b := ih (lo_st ρ n false) z
      rw [lo_E_s, lo_E_s, lo_wu_n (show n ≠ j by omega)]
      have := lo_ring2 (a := w n) (b := 10 - w n) (p := w j) (q := 0) (X0 := 0) (Y0 := 0) (by rw [a, Nat.zero_mul, Nat.add_zero]) (by rw [b, Nat.zero_mul, Nat.add_zero])
      rw [this, Nat.zero_mul, Nat.add_zero]
    · have e : j = n := by omega
      subst e
      have k : ∀ c ρ, lo_E (lo_wu w j c) P j ρ = lo_E w P j ρ := fun c ρ => lo_E_w j ρ (fun i hi => lo_wu_n (by omega))
      have t : lo_E w (fun ρ => ρ j = true ∧ P ρ) j (lo_st ρ j true) = lo_E w P j (lo_st ρ j true) := lo_E_loc j _ (fun ρ' h' => ⟨fun x => x.2, fun x => ⟨by rw [h' j (Nat.le_refl _), lo_st_s], x⟩⟩)
      have f : lo_E w (fun ρ => ρ j = true ∧ P ρ) j (lo_st ρ j false) = 0 := by
        rw [← lo_E_0 w j (lo_st ρ j false)]
        exact lo_E_loc j _ (fun ρ' h' => ⟨fun x => by have := x.1; rw [h' j (Nat.le_refl _), lo_st_s] at this; exact absurd this (by decide), fun x => x.elim⟩)
      rw [lo_E_s, lo_E_s, lo_wu_s, k, k, t, f, Nat.mul_zero, Nat.add_zero, Nat.sub_self, Nat.zero_mul, Nat.add_zero, Nat.mul_left_comm]
theorem lo_E_pin0 {w : Nat → Nat} {P : (Nat → Bool) → Prop} {j : Nat} : ∀ n ρ, j < n → 10 * lo_E w (fun ρ => ρ j = false ∧ P ρ) n ρ = (10 - w j) * lo_E (lo_wu w j 0) P n ρ := by
  intro n
  induction n with
  | zero => intro ρ h; exact absurd h (Nat.not_lt_zero j)
  | succ n ih =>
    intro ρ h
    rcases Nat.lt_or_ge j n with z | z
    · have a := ih (lo_st ρ n true) z
      have b := ih (lo_st ρ n false) z
      rw [lo_E_s, lo_E_s, lo_wu_n (show n ≠ j by omega)]
      have := lo_ring2 (a := w n) (b := 10 - w n) (p := 10 - w j) (q := 0) (X0 := 0) (Y0 := 0) (by rw [a, Nat.zero_mul, Nat.add_zero]) (by rw [b, Nat.zero_mul, Nat.add_zero])
      rw [this, Nat.zero_mul, Nat.add_zero]
    · have e : j = n := by omega
      subst e
      have k : ∀ c ρ, lo_E (lo_wu w j c) P j ρ = lo_E w P j ρ := fun c ρ => lo_E_w j ρ (fun i hi => lo_wu_n (by omega))
      have t : lo_E w (fun ρ => ρ j = false ∧ P ρ) j (lo_st ρ j false) = lo_E w P j (lo_st ρ j false) := lo_E_loc j _ (fun ρ' h' => ⟨fun x => x.2, fun x => ⟨by rw [h' j (Nat.le_refl _), lo_st_s], x⟩⟩)
      have f : lo_E w (fun ρ => ρ j = false ∧ P ρ) j (lo_st ρ j true) = 0 := by
        rw [← lo_E_0 w j (lo_st ρ j true)]
        exact lo_E_loc j _ (fun ρ' h' => ⟨fun x => by have := x.1; rw [h' j (Nat.le_refl _), lo_st_s] at this; exact absurd this (by decide), fun x => x.elim⟩)
      rw [lo_E_s, lo_E_s, lo_wu_s, k, k, t, f, Nat.mul_zero, Nat.zero_add, Nat.zero_mul, Nat.zero_add, Nat.sub_zero, Nat.mul_left_comm]
/-- all that matters is decided -/
theorem lo_E_sure {w : Nat → Nat} {P : (Nat → Bool) → Prop} : ∀ n ρ, (∀ i, i < n → w i ≤ 10) → (∀ i, i < n → w i = 0 ∨ w i = 10 ∨ lo_Ind P i) → lo_E w P n ρ = 10 ^ n * lo_b (P (fun i => if i < n then decide (w i = 10) else ρ i)) := by
  intro n
  induction n with
  | zero =>
    intro ρ _ _
    show lo_b _ = 1 * lo_b _
    rw [Nat.one_mul]
    exact lo_bc (by simp)
  | succ n ih =>
    intro ρ hw h
    have k : ∀ c, decide (w n = 10) = c → (fun i => if i < n then decide (w i = 10) else lo_st ρ n c i) = (fun i => if i < n + 1 then decide (w i = 10) else ρ i) := by
      intro c hc
      funext i
      by_cases z : i < n
      · rw [if_pos z, if_pos (by omega)]
      · rw [if_neg z]
        by_cases y : i = n
        · subst y
          rw [lo_st_s, if_pos (by omega), hc]
        · rw [lo_st_n y, if_neg (by omega)]
    have g : ∀ ρ, lo_E w P n ρ = _ := fun ρ => ih ρ (fun i hi => hw i (by omega)) (fun i hi => h i (by omega))
    rcases h n (by omega) with z | z | z
    · rw [lo_E_s, g (lo_st ρ n false), k false (by rw [z]; rfl), z, Nat.zero_mul, Nat.zero_add, Nat.sub_zero, Nat.pow_succ, Nat.mul_comm (10 ^ n) 10, Nat.mul_assoc]
    · rw [lo_E_s, g (lo_st ρ n true), k true (by rw [z]; rfl), z, Nat.sub_self, Nat.zero_mul, Nat.add_zero, Nat.pow_succ, Nat.mul_comm (10 ^ n) 10, Nat.mul_assoc]
    · rw [lo_E_skip z (hw n (by omega)), ← lo_E_st z (decide (w n = 10)) n ρ (Nat.le_refl _), g, k _ rfl, Nat.pow_succ, Nat.mul_comm (10 ^ n) 10, Nat.mul_assoc]
theorem lo_ring3 {p q t1 t2 T E1 E2 c : Nat} (h1 : t1 * T = E1 * c) (h2 : t2 * T = E2 * c) : (p * t1 + q * t2) * (T * 10) = (p * E1 + q * E2) * (c * 10) := by
  have e1 : p * t1 * T = p * E1 * c := by rw [Nat.mul_assoc, h1, Nat.mul_assoc]
  have e2 : q * t2 * T = q * E2 * c := by rw [Nat.mul_assoc, h2, Nat.mul_assoc]
  rw [← Nat.mul_assoc, ← Nat.mul_assoc, Nat.add_mul, e1, e2, Nat.add_mul (p * E1)]
/-- the sum is a whole share of 10 to the number of the rows that matter -/
theorem lo_E_int {w : Nat → Nat} {P : (Nat → Bool) → Prop} {C : Nat → Bool} : ∀ n ρ, (∀ i, i < n → w i ≤ 10) → (∀ i, i < n → C i = true ∨ w i = 0 ∨ w i = 10 ∨ lo_Ind P i) → ∃ t, t * 10 ^ n = lo_E w P n ρ * 10 ^ (lo_c C n) := by
  intro n
  induction n with
  | zero => intro ρ _ _; exact ⟨_, rfl⟩
  | succ n ih =>
    intro ρ hw h
    have g := fun ρ => ih ρ (fun i hi => hw i (by omega)) (fun i hi => h i (by omega))
    have hwn := hw n (by omega)
    have ten : ∀ {t e c : Nat}, t * 10 ^ n = e * c → t * 10 ^ (n + 1) = 10 * e * c := by
      intro t e c q
      rw [Nat.pow_succ, ← Nat.mul_assoc, q, Nat.mul_comm (e * c) 10, Nat.mul_assoc]
    cases hC : C n
    · have hc : lo_c C (n + 1) = lo_c C n := by show lo_c C n + (C n).toNat = _; rw [hC]; rfl
      rw [hc]
      rcases h n (by omega) with z | z | z | z
      · rw [hC] at z; exact absurd z (by decide)
      · obtain ⟨t, q⟩ := g (lo_st ρ n false)
        refine ⟨t, ?_⟩
        rw [lo_E_s, z, Nat.zero_mul, Nat.zero_add, Nat.sub_zero]
        exact ten q
      · obtain ⟨t, q⟩ := g (lo_st ρ n true)
        refine ⟨t, ?_⟩
        rw [lo_E_s, z, Nat.sub_self, Nat.zero_mul, Nat.add_zero]
        exact ten q
      · obtain ⟨t, q⟩ := g ρ
        refine ⟨t, ?_⟩
        rw [lo_E_skip z hwn]
        exact ten q
    · have hc : lo_c C (n + 1) = lo_c C n + 1 := by show lo_c C n + (C n).toNat = _; rw [hC]; rfl
      obtain ⟨t1, q1⟩ := g (lo_st ρ n true)
      obtain ⟨t2, q2⟩ := g (lo_st ρ n false)
      refine ⟨w n * t1 + (10 - w n) * t2, ?_⟩
      rw [hc, lo_E_s, Nat.pow_succ, Nat.pow_succ]
      exact lo_ring3 q1 q2
end
section
/-! the worlds by their numbers -/
def lo_lay (L : Nat → Bool) (m : Nat) : Nat → Bool := fun i => L i && m.testBit (lo_c L i)
def lo_pr (L : Nat → Bool) (w : Nat → Nat) (ρ : Nat → Bool) : Nat → Nat
  | 0 => 1
  | n + 1 => lo_pr L w ρ n * (if L n = true then (if ρ n = true then w n else 10 - w n) else 1)
theorem lo_pr_eq {L : Nat → Bool} {w : Nat → Nat} {ρ ρ' : Nat → Bool} : ∀ {n : Nat}, (∀ i, i < n → ρ i = ρ' i) → lo_pr L w ρ n = lo_pr L w ρ' n
  | 0, _ => rfl
  | n + 1, h => by
    show lo_pr L w ρ n * _ = lo_pr L w ρ' n * _
    rw [lo_pr_eq (n := n) (fun i hi => h i (by omega)), h n (by omega)]
def lo_gl (n : Nat) (a ρ : Nat → Bool) : Nat → Bool := fun i => if i < n then a i else ρ i
theorem lo_gl_s {n : Nat} {a ρ : Nat → Bool} : lo_gl (n + 1) a ρ = lo_gl n a (lo_st ρ n (a n)) := by
  funext i
  unfold lo_gl
  by_cases z : i < n
  · rw [if_pos z, if_pos (by omega)]
  · rw [if_neg z]
    by_cases y : i = n
    · subst y; rw [lo_st_s, if_pos (by omega)]
    · rw [lo_st_n y, if_neg (by omega)]
theorem lo_gl_eq {n : Nat} {a b ρ : Nat → Bool} (h : ∀ i, i < n → a i = b i) : lo_gl n a ρ = lo_gl n b ρ := by
  funext i
  unfold lo_gl
  by_cases z : i < n
  · rw [if_pos z, if_pos z, h i z]
  · rw [if_neg z, if_neg z]
def lo_wz (L : Nat → Bool) (w : Nat → Nat) : Nat → Nat := fun i => if L i = true then w i else 0
theorem lo_ring4 {a b St Sf T Et Ef c : Nat} (h1 : St * T = Et * c) (h2 : Sf * T = Ef * c) : (Sf * b + St * a) * (T * 10) = (a * Et + b * Ef) * (c * 10) := by
  have e1 : St * a * T = a * Et * c := by rw [Nat.mul_right_comm, h1, Nat.mul_comm, Nat.mul_assoc]
  have e2 : Sf * b * T = b * Ef * c := by rw [Nat.mul_right_comm, h2, Nat.mul_comm, Nat.mul_assoc]
  rw [← Nat.mul_assoc, ← Nat.mul_assoc, Nat.add_mul, e1, e2, Nat.add_mul (a * Et), Nat.add_comm]
theorem lo_sumE {L : Nat → Bool} {w : Nat → Nat} {P : (Nat → Bool) → Prop} : ∀ n ρ, lo_S (fun m => lo_b (P (lo_gl n (lo_lay L m) ρ)) * lo_pr L w (lo_lay L m) n) (2 ^ (lo_c L n)) * 10 ^ n = lo_E (lo_wz L w) P n ρ * 10 ^ (lo_c L n) := by
  intro n
  induction n with
  | zero =>
    intro ρ
    show (0 + lo_b (P (lo_gl 0 (lo_lay L 0) ρ)) * 1) * 1 = lo_b (P ρ) * 1
    have e : lo_gl 0 (lo_lay L 0) ρ = ρ := by funext i; unfold lo_gl; rw [if_neg (by omega)]
    rw [e, Nat.zero_add, Nat.mul_one]
  | succ n ih =>
    intro ρ
    cases hL : L n
    · have hc : lo_c L (n + 1) = lo_c L n := by show lo_c L n + (L n).toNat = _; rw [hL]; rfl
      have hw : lo_wz L w n = 0 := by unfold lo_wz; rw [hL]; rfl
      have e : ∀ m, lo_b (P (lo_gl (n + 1) (lo_lay L m) ρ)) * lo_pr L w (lo_lay L m) (n + 1) = lo_b (P (lo_gl n (lo_lay L m) (lo_st ρ n false))) * lo_pr L w (lo_lay L m) n := by
        intro m
        have e1 : lo_lay L m n = false := by unfold lo_lay; rw [hL]; rfl
        have e2 : lo_pr L w (lo_lay L m) (n + 1) = lo_pr L w (lo_lay L m) n := by
          show lo_pr L w (lo_lay L m) n * _ = _
          rw [hL]; simp
        rw [lo_gl_s, e1, e2]
      rw [hc, lo_S_eq (fun m _ => e m), lo_E_s, hw, Nat.zero_mul, Nat.zero_add, Nat.sub_zero, Nat.pow_succ, ← Nat.mul_assoc, ih, Nat.mul_comm _ 10, Nat.mul_assoc]
    · have hc : lo_c L (n + 1) = lo_c L n + 1 := by show lo_c L n + (L n).toNat = _; rw [hL]; rfl
      have hw : lo_wz L w n = w n := by unfold lo_wz; rw [hL]; rfl
      have ef : ∀ m, m < 2 ^ (lo_c L n) → lo_b (P (lo_gl (n + 1) (lo_lay L m) ρ)) * lo_pr L w (lo_lay L m) (n + 1) = lo_b (P (lo_gl n (lo_lay L m) (lo_st ρ n false))) * lo_pr L w (lo_lay L m) n * (10 - w n) := by
        intro m hm
        have e1 : lo_lay L m n = false := by unfold lo_lay; rw [Nat.testBit_lt_two_pow hm, Bool.and_false]
        have e2 : lo_pr L w (lo_lay L m) (n + 1) = lo_pr L w (lo_lay L m) n * (10 - w n) := by
          show lo_pr L w (lo_lay L m) n * _ = _
          rw [hL, e1]; simp
        rw [lo_gl_s, e1, e2, Nat.mul_assoc]
      have et : ∀ m, m < 2 ^ (lo_c L n) → lo_b (P (lo_gl (n + 1) (lo_lay L (2 ^ (lo_c L n) + m)) ρ)) * lo_pr L w (lo_lay L (2 ^ (lo_c L n) + m)) (n + 1) = lo_b (P (lo_gl n (lo_lay L m) (lo_st ρ n true))) * lo_pr L w (lo_lay L m) n * w n := by
        intro m hm
        have e1 : lo_lay L (2 ^ (lo_c L n) + m) n = true := by unfold lo_lay; rw [Nat.testBit_two_pow_add_eq, Nat.testBit_lt_two_pow hm, hL]; rfl
        have e0 : ∀ i, i < n → lo_lay L (2 ^ (lo_c L n) + m) i = lo_lay L m i := by
          intro i hi
          unfold lo_lay
          cases hi' : L i
          · rfl
          · rw [Nat.testBit_two_pow_add_gt (lo_c_lt L hi hi')]
        have e2 : lo_pr L w (lo_lay L (2 ^ (lo_c L n) + m)) (n + 1) = lo_pr L w (lo_lay L m) n * w n := by
          show lo_pr L w (lo_lay L (2 ^ (lo_c L n) + m)) n * _ = _
          rw [hL, e1, lo_pr_eq e0]; simp
        rw [lo_gl_s, e1, e2, lo_gl_eq e0, Nat.mul_assoc]
      rw [hc, Nat.pow_succ 2, Nat.mul_two, lo_S_add, lo_S_eq ef, lo_S_eq et, lo_S_mul, lo_S_mul, lo_E_s, hw, Nat.pow_succ, Nat.pow_succ]
      exact lo_ring4 (ih _) (ih _)
/-! the query and what matters to it -/
def lo_H (f s : Nat → Nat) (S : Nat → Bool) (ν : Nat → Nat) (ρ : Nat → Bool) : Prop := ∃ σ : Nat → Nat, (∀ x, x < 3 → σ x < 3 ∧ (ν x = 3 ∨ σ x = ν x)) ∧ ∀ r, r < 4 → S r = true → ρ (9 * r + 3 * σ (f r) + σ (s r)) = true
def lo_R (f s : Nat → Nat) (S : Nat → Bool) (ν : Nat → Nat) (i : Nat) : Bool := decide (S (i / 9) = true ∧ (ν (f (i / 9)) = 3 ∨ ν (f (i / 9)) = i / 3 % 3) ∧ (ν (s (i / 9)) = 3 ∨ ν (s (i / 9)) = i % 3) ∧ (f (i / 9) = s (i / 9) → i / 3 % 3 = i % 3))
def lo_F (f s : Nat → Nat) (S : Nat → Bool) : Prop := ∀ r, r < 4 → S r = true → f r < 3 ∧ s r < 3
theorem lo_ix {r a b : Nat} (ha : a < 3) (hb : b < 3) : (9 * r + 3 * a + b) / 9 = r ∧ (9 * r + 3 * a + b) / 3 % 3 = a ∧ (9 * r + 3 * a + b) % 3 = b := by omega
theorem lo_ix' {i : Nat} : i = 9 * (i / 9) + 3 * (i / 3 % 3) + i % 3 := by omega
theorem lo_H_eq {f s : Nat → Nat} {S : Nat → Bool} {ν : Nat → Nat} (hF : lo_F f s S) {ρ ρ' : Nat → Bool} (h : ∀ i, i < 36 → lo_R f s S ν i = true → ρ i = ρ' i) : lo_H f s S ν ρ → lo_H f s S ν ρ' := by
  rintro ⟨σ, h1, h2⟩
  refine ⟨σ, h1, fun r hr hS => ?_⟩
  obtain ⟨hf, hs⟩ := hF r hr hS
  have a := h1 _ hf
  have b := h1 _ hs
  obtain ⟨i1, i2, i3⟩ := lo_ix (r := r) a.1 b.1
  rw [← h _ (by omega) (by
    unfold lo_R
    rw [i1, i2, i3]
    refine decide_eq_true ⟨hS, ?_, ?_, ?_⟩
    · exact a.2.imp id (fun z => z.symm)
    · exact b.2.imp id (fun z => z.symm)
    · intro z; rw [z])]
  exact h2 r hr hS
theorem lo_H_ind {f s : Nat → Nat} {S : Nat → Bool} {ν : Nat → Nat} (hF : lo_F f s S) {i : Nat} (h : lo_R f s S ν i = false) : lo_Ind (lo_H f s S ν) i := by
  intro ρ b
  have k : ∀ j, j < 36 → lo_R f s S ν j = true → lo_st ρ i b j = ρ j := by
    intro j _ hj
    apply lo_st_n
    intro e
    rw [e, h] at hj
    exact absurd hj (by decide)
  exact ⟨lo_H_eq hF k, lo_H_eq hF (fun j a b => (k j a b).symm)⟩
theorem lo_Ind_not {P : (Nat → Bool) → Prop} {i : Nat} (h : lo_Ind P i) : lo_Ind (fun ρ => ¬ P ρ) i := fun ρ b => not_congr (h ρ b)
theorem lo_Ind_and {P Q : (Nat → Bool) → Prop} {i : Nat} (h : lo_Ind P i) (g : lo_Ind Q i) : lo_Ind (fun ρ => P ρ ∧ Q ρ) i := fun ρ b => and_congr (h ρ b) (g ρ b)
/-- the variable stands in an atom of the set -/
def lo_occ (f s : Nat → Nat) (S : Nat → Bool) (x : Nat) : Prop := ∃ r, r < 4 ∧ S r = true ∧ (f r = x ∨ s r = x)
theorem lo_H_prod {f s : Nat → Nat} {S S1 S2 : Nat → Bool} {ν : Nat → Nat} (hF : lo_F f s S) (hS : ∀ r, r < 4 → S r = (S1 r || S2 r)) (hno : ∀ x, x < 3 → ν x = 3 → lo_occ f s S1 x → lo_occ f s S2 x → False) (ρ : Nat → Bool) : lo_H f s S ν ρ ↔ lo_H f s S1 ν ρ ∧ lo_H f s S2 ν ρ := by
  constructor
  · rintro ⟨σ, h1, h2⟩
    exact ⟨⟨σ, h1, fun r hr h => h2 r hr (by rw [hS r hr, h]; rfl)⟩, ⟨σ, h1, fun r hr h => h2 r hr (by rw [hS r hr, h, Bool.or_true])⟩⟩
  · rintro ⟨⟨σ, h1, h2⟩, ⟨τ, g1, g2⟩⟩
    have key : ∃ υ : Nat → Nat, (∀ x, lo_occ f s S1 x → υ x = σ x) ∧ (∀ x, ¬ lo_occ f s S1 x → υ x = τ x) := by
      refine ⟨fun x => @ite Nat (lo_occ f s S1 x) (Classical.propDecidable _) (σ x) (τ x), fun x h => ?_, fun x h => ?_⟩
      · exact if_pos h
      · exact if_neg h
    obtain ⟨υ, u1, u2⟩ := key
    have u3 : ∀ x, x < 3 → lo_occ f s S2 x → υ x = τ x := by
      intro x hx h
      rcases Classical.em (lo_occ f s S1 x) with z | z
      · rw [u1 x z]
        rcases (h1 x hx).2 with y | y
        · exact (hno x hx y z h).elim
        · rcases (g1 x hx).2 with y' | y'
          · exact (hno x hx y' z h).elim
          · rw [y, y']
      · exact u2 x z
    refine ⟨υ, fun x hx => ?_, fun r hr h => ?_⟩
    · rcases Classical.em (lo_occ f s S1 x) with z | z
      · rw [u1 x z]; exact h1 x hx
      · rw [u2 x z]; exact g1 x hx
    · have hh := hF r hr h
      rw [hS r hr] at h
      cases a : S1 r
      · have b : S2 r = true := by rw [a] at h; exact h
        rw [u3 _ hh.1 ⟨r, hr, b, Or.inl rfl⟩, u3 _ hh.2 ⟨r, hr, b, Or.inr rfl⟩]
        exact g2 r hr b
      · rw [u1 _ ⟨r, hr, a, Or.inl rfl⟩, u1 _ ⟨r, hr, a, Or.inr rfl⟩]
        exact h2 r hr a
def lo_vu (ν : Nat → Nat) (x v : Nat) : Nat → Nat := fun y => if y = x then v else ν y
theorem lo_vu_s {ν : Nat → Nat} {x v : Nat} : lo_vu ν x v x = v := if_pos rfl
theorem lo_vu_n {ν : Nat → Nat} {x v y : Nat} (h : y ≠ x) : lo_vu ν x v y = ν y := if_neg h
theorem lo_H_proj {f s : Nat → Nat} {S : Nat → Bool} {ν : Nat → Nat} {x : Nat} (hx : x < 3) (hf : ν x = 3) (ρ : Nat → Bool) : lo_H f s S ν ρ ↔ lo_H f s S (lo_vu ν x 0) ρ ∨ lo_H f s S (lo_vu ν x 1) ρ ∨ lo_H f s S (lo_vu ν x 2) ρ := by
  have up : ∀ v, v < 3 → lo_H f s S (lo_vu ν x v) ρ → lo_H f s S ν ρ := by
    rintro v hv ⟨σ, h1, h2⟩
    refine ⟨σ, fun y hy => ⟨(h1 y hy).1, ?_⟩, h2⟩
    by_cases e : y = x
    · subst e; exact Or.inl hf
    · have := (h1 y hy).2
      rw [lo_vu_n e] at this
      exact this
  constructor
  · rintro ⟨σ, h1, h2⟩
    have k : ∀ v, σ x = v → lo_H f s S (lo_vu ν x v) ρ := by
      intro v hv
      refine ⟨σ, fun y hy => ⟨(h1 y hy).1, ?_⟩, h2⟩
      by_cases e : y = x
      · subst e; rw [lo_vu_s]; exact Or.inr hv
      · rw [lo_vu_n e]; exact (h1 y hy).2
    have := (h1 x hx).1
    rcases (by omega : σ x = 0 ∨ σ x = 1 ∨ σ x = 2) with z | z | z
    · exact Or.inl (k 0 z)
    · exact Or.inr (Or.inl (k 1 z))
    · exact Or.inr (Or.inr (k 2 z))
  · rintro (h | h | h)
    · exact up 0 (by omega) h
    · exact up 1 (by omega) h
    · exact up 2 (by omega) h
/-- different values of a common variable ask different rows -/
theorem lo_R_proj {f s : Nat → Nat} {S : Nat → Bool} {ν : Nat → Nat} {x v u i : Nat} (hc : ∀ r, r < 4 → S r = true → f r = x ∨ s r = x) (hv : v < 3) (hu : u < 3) (hi : i < 36) (a : lo_R f s S (lo_vu ν x v) i = true) (b : lo_R f s S (lo_vu ν x u) i = true) : v = u := by
  unfold lo_R at a b
  obtain ⟨a1, a2, a3, _⟩ := of_decide_eq_true a
  obtain ⟨b1, b2, b3, _⟩ := of_decide_eq_true b
  rcases hc (i / 9) (by omega) a1 with z | z
  · rw [z, lo_vu_s] at a2 b2; omega
  · rw [z, lo_vu_s] at a3 b3; omega
theorem lo_R_projI {f s : Nat → Nat} {S : Nat → Bool} {ν : Nat → Nat} {x i : Nat} (hx : ν x = 3) (hc : ∀ r, r < 4 → S r = true → f r = x ∨ s r = x) (hi : i < 36) : (lo_R f s S ν i).toNat = (lo_R f s S (lo_vu ν x 0) i).toNat + (lo_R f s S (lo_vu ν x 1) i).toNat + (lo_R f s S (lo_vu ν x 2) i).toNat := by
  have up : ∀ v, lo_R f s S (lo_vu ν x v) i = true → lo_R f s S ν i = true := by
    intro v h
    unfold lo_R at h ⊢
    obtain ⟨a1, a2, a3, a4⟩ := of_decide_eq_true h
    refine decide_eq_true ⟨a1, ?_, ?_, a4⟩
    · by_cases e : f (i / 9) = x
      · rw [e]; exact Or.inl hx
      · rw [lo_vu_n e] at a2; exact a2
    · by_cases e : s (i / 9) = x
      · rw [e]; exact Or.inl hx
      · rw [lo_vu_n e] at a3; exact a3
  have dn : lo_R f s S ν i = true → ∃ v, v < 3 ∧ lo_R f s S (lo_vu ν x v) i = true := by
    intro h
    unfold lo_R at h
    obtain ⟨a1, a2, a3, a4⟩ := of_decide_eq_true h
    have mk : ∀ v, (f (i / 9) = x → v = i / 3 % 3) → (s (i / 9) = x → v = i % 3) → lo_R f s S (lo_vu ν x v) i = true := by
      intro v p q
      unfold lo_R
      refine decide_eq_true ⟨a1, ?_, ?_, a4⟩
      · by_cases e : f (i / 9) = x
        · rw [e, lo_vu_s]; exact Or.inr (p e)
        · rw [lo_vu_n e]; exact a2
      · by_cases e : s (i / 9) = x
        · rw [e, lo_vu_s]; exact Or.inr (q e)
        · rw [lo_vu_n e]; exact a3
    by_cases e : f (i / 9) = x
    · exact ⟨i / 3 % 3, by omega, mk _ (fun _ => rfl) (fun z => a4 (e.trans z.symm))⟩
    · exact ⟨i % 3, by omega, mk _ (fun z => absurd z e) (fun _ => rfl)⟩
  have one := fun v u (hv : v < 3) (hu : u < 3) => lo_R_proj (f := f) (s := s) (S := S) (ν := ν) (x := x) (v := v) (u := u) (i := i) hc hv hu hi
  cases h : lo_R f s S ν i
  · have n : ∀ v, lo_R f s S (lo_vu ν x v) i = false := by
      intro v
      cases g : lo_R f s S (lo_vu ν x v) i
      · rfl
      · rw [up v g] at h; exact absurd h (by decide)
    rw [n, n, n]; rfl
  · obtain ⟨v, hv, g⟩ := dn h
    have n : ∀ u, u < 3 → v ≠ u → lo_R f s S (lo_vu ν x u) i = false := by
      intro u hu ne
      cases g' : lo_R f s S (lo_vu ν x u) i
      · rfl
      · exact absurd (one v u hv hu g g') ne
    rcases (by omega : v = 0 ∨ v = 1 ∨ v = 2) with z | z | z
    · subst z; rw [g, n 1 (by omega) (by omega), n 2 (by omega) (by omega)]; rfl
    · subst z; rw [g, n 0 (by omega) (by omega), n 2 (by omega) (by omega)]; rfl
    · subst z; rw [g, n 0 (by omega) (by omega), n 1 (by omega) (by omega)]; rfl
theorem lo_R_prod {f s : Nat → Nat} {S S1 S2 : Nat → Bool} {ν : Nat → Nat} {i : Nat} (hi : i < 36) (hS : ∀ r, r < 4 → (S r).toNat = (S1 r).toNat + (S2 r).toNat) : (lo_R f s S ν i).toNat = (lo_R f s S1 ν i).toNat + (lo_R f s S2 ν i).toNat := by
  have h := hS (i / 9) (by omega)
  have k : ∀ T : Nat → Bool, lo_R f s T ν i = (T (i / 9) && decide ((ν (f (i / 9)) = 3 ∨ ν (f (i / 9)) = i / 3 % 3) ∧ (ν (s (i / 9)) = 3 ∨ ν (s (i / 9)) = i % 3) ∧ (f (i / 9) = s (i / 9) → i / 3 % 3 = i % 3))) := by
    intro T
    unfold lo_R
    cases T (i / 9) <;> simp
  rw [k S, k S1, k S2]
  generalize decide ((ν (f (i / 9)) = 3 ∨ ν (f (i / 9)) = i / 3 % 3) ∧ (ν (s (i / 9)) = 3 ∨ ν (s (i / 9)) = i % 3) ∧ (f (i / 9) = s (i / 9) → i / 3 % 3 = i % 3)) = b
  revert h
  cases S (i / 9) <;> cases S1 (i / 9) <;> cases S2 (i / 9) <;> cases b <;> simp
end
section
/-! what a finished frame gives: a share a of 10 to the e -/
def lo_C (L : Nat → Bool) (f s : Nat → Nat) (S : Nat → Bool) (ν : Nat → Nat) : Nat := lo_c (fun i => L i && lo_R f s S ν i) 36
noncomputable def lo_X (L : Nat → Bool) (w f s : Nat → Nat) (S : Nat → Bool) (ν : Nat → Nat) : Nat := lo_E (lo_wz L w) (lo_H f s S ν) 36 (fun _ => false)
def lo_G (L : Nat → Bool) (w f s : Nat → Nat) (S : Nat → Bool) (ν : Nat → Nat) (a e : Nat) : Prop := e = lo_C L f s S ν ∧ a * 10 ^ 36 = lo_X L w f s S ν * 10 ^ e
def lo_W (L : Nat → Bool) (w : Nat → Nat) : Prop := ∀ i, i < 36 → L i = true → w i ≤ 10
theorem lo_K0 : 0 < 10 ^ 36 := Nat.pow_pos (by decide)
theorem lo_T0 (e : Nat) : 0 < 10 ^ e := Nat.pow_pos (by decide)
theorem lo_wz_le {L : Nat → Bool} {w : Nat → Nat} (h : lo_W L w) : ∀ i, i < 36 → lo_wz L w i ≤ 10 := by
  intro i hi
  unfold lo_wz
  cases hL : L i
  · simp
  · have := h i hi hL
    simpa using this
theorem lo_ring5 {K a1 a2 X1 X2 X T1 T2 : Nat} (hK : 0 < K) (h1 : a1 * K = X1 * T1) (h2 : a2 * K = X2 * T2) (h : X * K = X1 * X2) : a1 * a2 * K = X * (T1 * T2) := by
  apply Nat.eq_of_mul_eq_mul_right hK
  calc a1 * a2 * K * K = (a1 * K) * (a2 * K) := by ac_rfl
    _ = (X1 * T1) * (X2 * T2) := by rw [h1, h2]
    _ = (X1 * X2) * (T1 * T2) := by ac_rfl
    _ = X * K * (T1 * T2) := by rw [h]
    _ = X * (T1 * T2) * K := by ac_rfl
theorem lo_ring6 {K a X Y T : Nat} (h : a * K = X * T) (e : Y + X = K) : (T - a) * K = Y * T := by
  rw [Nat.sub_mul, h, show Y = K - X by omega, Nat.sub_mul, Nat.mul_comm T K]
theorem lo_G_le {L : Nat → Bool} {w f s : Nat → Nat} {S : Nat → Bool} {ν : Nat → Nat} {a e : Nat} (hw : lo_W L w) (h : lo_G L w f s S ν a e) : a ≤ 10 ^ e := by
  have k : lo_X L w f s S ν ≤ 10 ^ 36 := lo_E_le 36 _ (lo_wz_le hw)
  have h2 : a * 10 ^ 36 ≤ 10 ^ e * 10 ^ 36 := by
    rw [h.2, Nat.mul_comm (10 ^ e)]
    exact Nat.mul_le_mul_right _ k
  exact Nat.le_of_mul_le_mul_right h2 lo_K0
theorem lo_C_le {L : Nat → Bool} {f s : Nat → Nat} {S : Nat → Bool} {ν : Nat → Nat} : lo_C L f s S ν ≤ lo_c L 36 := lo_c_le (fun i _ h => by
  have h' : (L i && lo_R f s S ν i) = true := h
  rw [Bool.and_eq_true] at h'
  exact h'.1)
theorem lo_tn {a b c d : Bool} (h : b.toNat = c.toNat + d.toNat) : (a && b).toNat = (a && c).toNat + (a && d).toNat := by
  cases a
  · rfl
  · simpa using h
theorem lo_C_prod {L : Nat → Bool} {f s : Nat → Nat} {S S1 S2 : Nat → Bool} {ν : Nat → Nat} (hS : ∀ r, r < 4 → (S r).toNat = (S1 r).toNat + (S2 r).toNat) : lo_C L f s S ν = lo_C L f s S1 ν + lo_C L f s S2 ν :=
  lo_c_add (fun _ hi => lo_tn (lo_R_prod hi hS))
theorem lo_or_tn {a b c : Bool} (h : a.toNat = b.toNat + c.toNat) : a = (b || c) := by
  revert h
  cases a <;> cases b <;> cases c <;> simp
theorem lo_R_dis {f s : Nat → Nat} {S S1 S2 : Nat → Bool} {ν : Nat → Nat} (hS : ∀ r, r < 4 → (S r).toNat = (S1 r).toNat + (S2 r).toNat) {i : Nat} (hi : i < 36) : lo_R f s S1 ν i = false ∨ lo_R f s S2 ν i = false := by
  have h := lo_R_prod (f := f) (s := s) (ν := ν) hi hS
  have k : (lo_R f s S ν i).toNat ≤ 1 := by cases lo_R f s S ν i <;> decide
  cases a : lo_R f s S1 ν i
  · exact Or.inl rfl
  · cases b : lo_R f s S2 ν i
    · exact Or.inr rfl
    · rw [a, b] at h
      simp only [Bool.toNat_true] at h
      omega
theorem lo_F_sub {f s : Nat → Nat} {S S1 : Nat → Bool} (h : lo_F f s S) (g : ∀ r, r < 4 → S1 r = true → S r = true) : lo_F f s S1 := fun r hr a => h r hr (g r hr a)
theorem lo_G_prod {L : Nat → Bool} {w f s : Nat → Nat} {S S1 S2 : Nat → Bool} {ν : Nat → Nat} {a1 e1 a2 e2 : Nat} (hw : lo_W L w) (hF : lo_F f s S) (hS : ∀ r, r < 4 → (S r).toNat = (S1 r).toNat + (S2 r).toNat) (hno : ∀ x, x < 3 → ν x = 3 → lo_occ f s S1 x → lo_occ f s S2 x → False) (g1 : lo_G L w f s S1 ν a1 e1) (g2 : lo_G L w f s S2 ν a2 e2) : lo_G L w f s S ν (a1 * a2) (e1 + e2) := by
  have hS' : ∀ r, r < 4 → S r = (S1 r || S2 r) := fun r hr => lo_or_tn (hS r hr)
  have f1 : lo_F f s S1 := lo_F_sub hF (fun r hr a => by rw [hS' r hr, a]; rfl)
  have f2 : lo_F f s S2 := lo_F_sub hF (fun r hr a => by rw [hS' r hr, a, Bool.or_true])
  refine ⟨by rw [g1.1, g2.1, lo_C_prod hS], ?_⟩
  rw [Nat.pow_add]
  refine lo_ring5 lo_K0 g1.2 g2.2 ?_
  have e : lo_X L w f s S ν = lo_E (lo_wz L w) (fun ρ => lo_H f s S1 ν ρ ∧ lo_H f s S2 ν ρ) 36 (fun _ => false) := lo_E_eq (lo_H_prod hF hS' hno) 36 _
  rw [e]
  refine lo_E_mul 36 _ (lo_wz_le hw) (fun i hi => ?_)
  rcases lo_R_dis (f := f) (s := s) (ν := ν) hS hi with z | z
  · exact Or.inl (lo_H_ind f1 z)
  · exact Or.inr (lo_H_ind f2 z)
theorem lo_C_proj {L : Nat → Bool} {f s : Nat → Nat} {S : Nat → Bool} {ν : Nat → Nat} {x : Nat} (hx : ν x = 3) (hc : ∀ r, r < 4 → S r = true → f r = x ∨ s r = x) : lo_C L f s S ν = lo_C L f s S (lo_vu ν x 0) + lo_C L f s S (lo_vu ν x 1) + lo_C L f s S (lo_vu ν x 2) := by
  have k : ∀ i, i < 36 → (lo_R f s S (lo_vu ν x 0) i || lo_R f s S (lo_vu ν x 1) i).toNat = (lo_R f s S (lo_vu ν x 0) i).toNat + (lo_R f s S (lo_vu ν x 1) i).toNat ∧ (lo_R f s S ν i).toNat = (lo_R f s S (lo_vu ν x 0) i || lo_R f s S (lo_vu ν x 1) i).toNat + (lo_R f s S (lo_vu ν x 2) i).toNat := by
    intro i hi
    have h := lo_R_projI (f := f) (s := s) hx hc hi
    revert h
    cases lo_R f s S ν i <;> cases lo_R f s S (lo_vu ν x 0) i <;> cases lo_R f s S (lo_vu ν x 1) i <;> cases lo_R f s S (lo_vu ν x 2) i <;> simp
  have a : lo_c (fun i => L i && (lo_R f s S (lo_vu ν x 0) i || lo_R f s S (lo_vu ν x 1) i)) 36 = lo_C L f s S (lo_vu ν x 0) + lo_C L f s S (lo_vu ν x 1) := lo_c_add (fun i hi => lo_tn (k i hi).1)
  rw [← a]
  exact lo_c_add (fun i hi => lo_tn (k i hi).2)
theorem lo_G_proj {L : Nat → Bool} {w f s : Nat → Nat} {S : Nat → Bool} {ν : Nat → Nat} {x a0 e0 a1 e1 a2 e2 : Nat} (hw : lo_W L w) (hF : lo_F f s S) (h3 : x < 3) (hx : ν x = 3) (hc : ∀ r, r < 4 → S r = true → f r = x ∨ s r = x) (g0 : lo_G L w f s S (lo_vu ν x 0) a0 e0) (g1 : lo_G L w f s S (lo_vu ν x 1) a1 e1) (g2 : lo_G L w f s S (lo_vu ν x 2) a2 e2) : (10 ^ e0 - a0) * (10 ^ e1 - a1) * (10 ^ e2 - a2) ≤ 10 ^ (e0 + e1 + e2) ∧ lo_G L w f s S ν (10 ^ (e0 + e1 + e2) - (10 ^ e0 - a0) * (10 ^ e1 - a1) * (10 ^ e2 - a2)) (e0 + e1 + e2) := by
  have hW := lo_wz_le hw
  have n : ∀ v, lo_E (lo_wz L w) (fun ρ => ¬ lo_H f s S (lo_vu ν x v) ρ) 36 (fun _ => false) + lo_X L w f s S (lo_vu ν x v) = 10 ^ 36 := fun v => lo_E_not 36 _ hW
  have b0 := lo_ring6 g0.2 (n 0)
  have b1 := lo_ring6 g1.2 (n 1)
  have b2 := lo_ring6 g2.2 (n 2)
  have dis : ∀ v u, v < 3 → u < 3 → v ≠ u → ∀ i, i < 36 → lo_Ind (lo_H f s S (lo_vu ν x v)) i ∨ lo_Ind (lo_H f s S (lo_vu ν x u)) i := by
    intro v u hv hu ne i hi
    cases a : lo_R f s S (lo_vu ν x v) i
    · exact Or.inl (lo_H_ind hF a)
    · cases b : lo_R f s S (lo_vu ν x u) i
      · exact Or.inr (lo_H_ind hF b)
      · exact absurd (lo_R_proj hc hv hu hi a b) ne
  have m01 := lo_E_mul (w := lo_wz L w) (P := fun ρ => ¬ lo_H f s S (lo_vu ν x 0) ρ) (Q := fun ρ => ¬ lo_H f s S (lo_vu ν x 1) ρ) 36 (fun _ => false) hW (fun i hi => (dis 0 1 (by omega) (by omega) (by omega) i hi).imp lo_Ind_not lo_Ind_not)
  have m2 := lo_E_mul (w := lo_wz L w) (P := fun ρ => ¬ lo_H f s S (lo_vu ν x 0) ρ ∧ ¬ lo_H f s S (lo_vu ν x 1) ρ) (Q := fun ρ => ¬ lo_H f s S (lo_vu ν x 2) ρ) 36 (fun _ => false) hW (fun i hi => by
    rcases dis 0 2 (by omega) (by omega) (by omega) i hi with z | z
    · rcases dis 1 2 (by omega) (by omega) (by omega) i hi with y | y
      · exact Or.inl (lo_Ind_and (lo_Ind_not z) (lo_Ind_not y))
      · exact Or.inr (lo_Ind_not y)
    · exact Or.inr (lo_Ind_not z))
  have c01 := lo_ring5 lo_K0 b0 b1 m01
  have c2 := lo_ring5 lo_K0 c01 b2 m2
  have tot := lo_E_not (w := lo_wz L w) (P := lo_H f s S ν) 36 (fun _ => false) hW
  have eq : lo_E (lo_wz L w) (fun ρ => ¬ lo_H f s S ν ρ) 36 (fun _ => false) = lo_E (lo_wz L w) (fun ρ => (¬ lo_H f s S (lo_vu ν x 0) ρ ∧ ¬ lo_H f s S (lo_vu ν x 1) ρ) ∧ ¬ lo_H f s S (lo_vu ν x 2) ρ) 36 (fun _ => false) := by
    refine lo_E_eq (fun ρ => ?_) 36 _
    rw [lo_H_proj h3 hx ρ]
    constructor
    · intro z; exact ⟨⟨fun y => z (Or.inl y), fun y => z (Or.inr (Or.inl y))⟩, fun y => z (Or.inr (Or.inr y))⟩
    · rintro ⟨⟨y0, y1⟩, y2⟩ (z | z | z)
      · exact y0 z
      · exact y1 z
      · exact y2 z
  rw [eq] at tot
  have T : 10 ^ (e0 + e1 + e2) = 10 ^ e0 * 10 ^ e1 * 10 ^ e2 := by rw [Nat.pow_add, Nat.pow_add]
  rw [T]
  refine ⟨Nat.mul_le_mul (Nat.mul_le_mul (Nat.sub_le _ _) (Nat.sub_le _ _)) (Nat.sub_le _ _), ?_, ?_⟩
  · rw [g0.1, g1.1, g2.1, lo_C_proj hx hc]
  · rw [T]
    refine lo_ring6 c2 ?_
    rw [Nat.add_comm]
    exact tot
theorem lo_vs {ν : Nat → Nat} (hν : ∀ x, x < 3 → ν x ≤ 3) : ∃ σ : Nat → Nat, ∀ x, x < 3 → σ x < 3 ∧ (ν x = 3 ∨ σ x = ν x) := by
  refine ⟨fun x => if ν x = 3 then 0 else ν x, fun x hx => ?_⟩
  by_cases z : ν x = 3
  · simp [z]
  · have := hν x hx
    simp [z]; omega
theorem lo_G_empty {L : Nat → Bool} {w f s : Nat → Nat} {S : Nat → Bool} {ν : Nat → Nat} (hw : lo_W L w) (hν : ∀ x, x < 3 → ν x ≤ 3) (hS : ∀ r, r < 4 → S r = false) : lo_G L w f s S ν 1 0 := by
  constructor
  · refine (lo_c_0 (fun i hi => ?_)).symm
    show (L i && lo_R f s S ν i) = false
    have : lo_R f s S ν i = false := by
      unfold lo_R
      rw [hS (i / 9) (by omega)]
      exact decide_eq_false (fun z => absurd z.1 (by decide))
    rw [this, Bool.and_false]
  · obtain ⟨σ, hσ⟩ := lo_vs hν
    have e : lo_X L w f s S ν = 10 ^ 36 := by
      rw [← lo_E_1 (w := lo_wz L w) 36 (fun _ => false) (lo_wz_le hw)]
      exact lo_E_eq (fun ρ => ⟨fun _ => trivial, fun _ => ⟨σ, hσ, fun r hr h => by rw [hS r hr] at h; exact absurd h (by decide)⟩⟩) 36 _
    rw [e, Nat.one_mul]
/-- a single atom without open variables -/
theorem lo_G_ground {L : Nat → Bool} {w f s : Nat → Nat} {S : Nat → Bool} {ν : Nat → Nat} {r0 : Nat} (hw : lo_W L w) (hν : ∀ x, x < 3 → ν x ≤ 3) (hF : lo_F f s S) (h4 : r0 < 4) (hS : ∀ r, r < 4 → (S r = true ↔ r = r0)) (n1 : ν (f r0) ≠ 3) (n2 : ν (s r0) ≠ 3) : 9 * r0 + 3 * ν (f r0) + ν (s r0) < 36 ∧ (L (9 * r0 + 3 * ν (f r0) + ν (s r0)) = true → lo_G L w f s S ν (w (9 * r0 + 3 * ν (f r0) + ν (s r0))) 1) ∧ (L (9 * r0 + 3 * ν (f r0) + ν (s r0)) = false → lo_G L w f s S ν 0 0) := by
  obtain ⟨hf, hs⟩ := hF r0 h4 ((hS r0 h4).mpr rfl)
  have a := hν _ hf
  have b := hν _ hs
  have hlt : 9 * r0 + 3 * ν (f r0) + ν (s r0) < 36 := by omega
  obtain ⟨i1, i2, i3⟩ := lo_ix (r := r0) (a := ν (f r0)) (b := ν (s r0)) (by omega) (by omega)
  have hR1 : lo_R f s S ν (9 * r0 + 3 * ν (f r0) + ν (s r0)) = true := by
    unfold lo_R
    rw [i1, i2, i3]
    exact decide_eq_true ⟨(hS r0 h4).mpr rfl, Or.inr rfl, Or.inr rfl, fun z => by rw [z]⟩
  have hR0 : ∀ i, i < 36 → i ≠ 9 * r0 + 3 * ν (f r0) + ν (s r0) → lo_R f s S ν i = false := by
    intro i hi ne
    cases h : lo_R f s S ν i
    · rfl
    · exfalso
      unfold lo_R at h
      obtain ⟨c1, c2, c3, _⟩ := of_decide_eq_true h
      have c0 := (hS _ (by omega)).mp c1
      rw [c0] at c2 c3
      have d1 := c2.resolve_left n1
      have d2 := c3.resolve_left n2
      omega
  have hH : ∀ ρ, lo_H f s S ν ρ ↔ (ρ (9 * r0 + 3 * ν (f r0) + ν (s r0)) = true ∧ True) := by
    intro ρ
    constructor
    · rintro ⟨σ, h1, h2⟩
      have := h2 r0 h4 ((hS r0 h4).mpr rfl)
      rw [(h1 _ hf).2.resolve_left n1, (h1 _ hs).2.resolve_left n2] at this
      exact ⟨this, trivial⟩
    · rintro ⟨h, _⟩
      obtain ⟨σ, hσ⟩ := lo_vs hν
      refine ⟨σ, hσ, fun r hr hr' => ?_⟩
      have := (hS r hr).mp hr'
      subst this
      rw [(hσ _ hf).2.resolve_left n1, (hσ _ hs).2.resolve_left n2]
      exact h
  generalize 9 * r0 + 3 * ν (f r0) + ν (s r0) = j at *
  have hX : 10 * lo_X L w f s S ν = lo_wz L w j * 10 ^ 36 := by
    unfold lo_X
    rw [lo_E_eq hH, lo_E_pin 36 _ hlt, lo_E_1]
    intro i hi
    by_cases e : i = j
    · subst e; rw [lo_wu_s]; exact Nat.le_refl _
    · rw [lo_wu_n e]; exact lo_wz_le hw i hi
  refine ⟨hlt, fun hL => ⟨?_, ?_⟩, fun hL => ⟨?_, ?_⟩⟩
  · refine (lo_c_one hlt (by rw [hL, hR1]; rfl) (fun i hi ne => ?_)).symm
    rw [hR0 i hi ne, Bool.and_false]
  · have : lo_wz L w j = w j := by unfold lo_wz; rw [hL]; rfl
    rw [this] at hX
    rw [← hX, Nat.pow_one, Nat.mul_comm]
  · refine (lo_c_0 (fun i hi => ?_)).symm
    by_cases e : i = j
    · subst e; rw [hL]; rfl
    · rw [hR0 i hi e, Bool.and_false]
  · have : lo_wz L w j = 0 := by unfold lo_wz; rw [hL]; rfl
    rw [this, Nat.zero_mul] at hX
    have : lo_X L w f s S ν = 0 := by omega
    rw [this, Nat.zero_mul]
/-- all rows that matter are decided -/
theorem lo_G_leaf {L : Nat → Bool} {w f s : Nat → Nat} {S : Nat → Bool} {ν : Nat → Nat} (hw : lo_W L w) (hF : lo_F f s S) (h : ∀ i, i < 36 → L i = true → lo_R f s S ν i = true → w i = 0 ∨ w i = 10) {a : Nat} (h1 : lo_H f s S ν (fun i => L i && decide (w i = 10)) → a = 10 ^ lo_C L f s S ν) (h0 : ¬ lo_H f s S ν (fun i => L i && decide (w i = 10)) → a = 0) : lo_G L w f s S ν a (lo_C L f s S ν) := by
  refine ⟨rfl, ?_⟩
  have e := lo_E_sure (w := lo_wz L w) (P := lo_H f s S ν) 36 (fun _ => false) (lo_wz_le hw) (fun i hi => by
    cases hL : L i
    · left; unfold lo_wz; rw [hL]; rfl
    · have hz : lo_wz L w i = w i := by unfold lo_wz; rw [hL]; rfl
      rw [hz]
      cases hR : lo_R f s S ν i
      · exact Or.inr (Or.inr (lo_H_ind hF hR))
      · exact (h i hi hL hR).imp id Or.inl)
  have c : lo_H f s S ν (fun i => if i < 36 then decide (lo_wz L w i = 10) else false) ↔ lo_H f s S ν (fun i => L i && decide (w i = 10)) := by
    have k : ∀ i, i < 36 → lo_R f s S ν i = true → (if i < 36 then decide (lo_wz L w i = 10) else false) = (L i && decide (w i = 10)) := by
      intro i hi _
      rw [if_pos hi]
      unfold lo_wz
      cases L i <;> simp
    exact ⟨lo_H_eq hF k, lo_H_eq hF (fun i a b => (k i a b).symm)⟩
  show a * 10 ^ 36 = lo_E _ _ _ _ * _
  rw [e, lo_bc c]
  rcases Classical.em (lo_H f s S ν (fun i => L i && decide (w i = 10))) with z | z
  · rw [lo_bt z, h1 z, Nat.mul_one, Nat.mul_comm]
  · rw [lo_bf z, h0 z, Nat.mul_zero, Nat.zero_mul, Nat.zero_mul]
theorem lo_ring7 {K T a1 a0 X1 X0 X t p q : Nat} (hK : 0 < K) (h1 : a1 * K = X1 * T) (h0 : a0 * K = X0 * T) (sp : 10 * X = p * X1 + q * X0) (ht : t * K = X * T) : a1 * p + a0 * q = 10 * t := by
  apply Nat.eq_of_mul_eq_mul_right hK
  calc (a1 * p + a0 * q) * K = p * (a1 * K) + q * (a0 * K) := by rw [Nat.add_mul]; ac_rfl
    _ = p * (X1 * T) + q * (X0 * T) := by rw [h1, h0]
    _ = (p * X1 + q * X0) * T := by rw [Nat.add_mul]; ac_rfl
    _ = 10 * X * T := by rw [← sp]
    _ = 10 * t * K := by rw [Nat.mul_assoc, ← ht, Nat.mul_assoc]
/-- one row is decided -/
theorem lo_G_dec {L : Nat → Bool} {w f s : Nat → Nat} {S : Nat → Bool} {ν : Nat → Nat} {j a1 e1 a0 e0 : Nat} (hw : lo_W L w) (hF : lo_F f s S) (hj : j < 36) (hL : L j = true) (g1 : lo_G L (lo_wu w j 10) f s S ν a1 e1) (g0 : lo_G L (lo_wu w j 0) f s S ν a0 e0) : lo_G L w f s S ν ((a1 * w j + a0 * (10 - w j)) / 10) e0 := by
  have ee : e1 = e0 := by rw [g1.1, g0.1]
  subst ee
  refine ⟨g0.1, ?_⟩
  have z : ∀ a, lo_X L (lo_wu w j a) f s S ν = lo_E (lo_wu (lo_wz L w) j a) (lo_H f s S ν) 36 (fun _ => false) := by
    intro a
    refine lo_E_w 36 _ (fun i hi => ?_)
    unfold lo_wz
    by_cases e : i = j
    · subst e; rw [hL, lo_wu_s, lo_wu_s]; rfl
    · rw [lo_wu_n e, lo_wu_n e]
  have wj : lo_wz L w j = w j := by unfold lo_wz; rw [hL]; rfl
  have sp := lo_E_split (w := lo_wz L w) (P := lo_H f s S ν) 36 (fun _ => false) hj
  rw [← z, ← z, wj] at sp
  obtain ⟨t, ht⟩ := lo_E_int (w := lo_wz L w) (P := lo_H f s S ν) (C := fun i => L i && lo_R f s S ν i) 36 (fun _ => false) (lo_wz_le hw) (fun i hi => by
    cases hR : lo_R f s S ν i
    · exact Or.inr (Or.inr (Or.inr (lo_H_ind hF hR)))
    · cases hL' : L i
      · exact Or.inr (Or.inl (by unfold lo_wz; rw [hL']; rfl))
      · exact Or.inl rfl)
  have ht' : t * 10 ^ 36 = lo_X L w f s S ν * 10 ^ e1 := by rw [g0.1]; exact ht
  have k : a1 * w j + a0 * (10 - w j) = 10 * t := lo_ring7 lo_K0 g1.2 g0.2 sp ht'
  rw [k, Nat.mul_div_cancel_left _ (by decide : 0 < 10)]
  exact ht'
end
section
/-! ints of few bits -/
theorem lb_or (a b : Nat) : nI a ||| nI b = nI (a ||| b) := by
  apply Int32.toBitVec_inj.1
  show BitVec.ofNat 32 a ||| BitVec.ofNat 32 b = BitVec.ofNat 32 (a ||| b)
  apply BitVec.eq_of_getLsbD_eq
  intro i hi
  simp [hi]
theorem lb_1s : ∀ r, r < 16 → (1 : Int32) <<< (nI r &&& 31) = nI (2 ^ r) := by decide +kernel
def lo_vl (v x : Nat) : Nat := v / 2 ^ (2 * x) % 4
theorem lb_vl : ∀ v, v < 64 → ∀ x, x < 3 → ((nI v).toUInt32 >>> ((2 * nI x).toUInt32 &&& Int32.toUInt32 31)).toInt32 &&& 3 = nI (lo_vl v x) := by decide +kernel
theorem lo_vl_le (v x : Nat) : lo_vl v x ≤ 3 := by unfold lo_vl; omega
def lo_vset (v x t : Nat) : Nat := v - lo_vl v x * 2 ^ (2 * x) + t * 2 ^ (2 * x)
theorem lb_vset0 : ∀ v, v < 64 → ∀ x, x < 3 → (nI v &&& (((3 : Int32) <<< ((2 * nI x) &&& 31)) ^^^ (-1))) = nI (lo_vset v x 0) := by decide +kernel
theorem lb_vset : ∀ v, v < 64 → ∀ x, x < 3 → ∀ t, t < 3 → ((nI v &&& (((3 : Int32) <<< ((2 * nI x) &&& 31)) ^^^ (-1))) ||| (nI t <<< ((2 * nI x) &&& 31))) = nI (lo_vset v x t) := by decide +kernel
theorem lo_vset_lt : ∀ v, v < 64 → ∀ x, x < 3 → ∀ t, t < 3 → lo_vset v x t < 64 := by decide +kernel
theorem lo_vset_vl : ∀ v, v < 64 → ∀ x, x < 3 → ∀ t, t < 3 → ∀ y, y < 3 → lo_vl (lo_vset v x t) y = lo_vu (lo_vl v) x t y := by decide +kernel
/-- the number of variables without a value -/
def lo_nf (v : Nat) : Nat := lo_c (fun x => decide (lo_vl v x = 3)) 3
theorem lo_nf_vset : ∀ v, v < 64 → ∀ x, x < 3 → ∀ t, t < 3 → lo_vl v x = 3 → lo_nf (lo_vset v x t) + 1 = lo_nf v := by decide +kernel
theorem lo_nf_le (v : Nat) : lo_nf v ≤ 3 := lo_c_bd _ 3
/-- sets of atoms -/
def lo_df (a b : Nat) : Nat := a &&& (b ^^^ 15)
theorem lb_df : ∀ a, a < 16 → ∀ b, b < 16 → nI a &&& (nI b ^^^ (-1)) = nI (lo_df a b) := by decide +kernel
theorem lo_df_lt : ∀ a, a < 16 → ∀ b, b < 16 → lo_df a b < 16 := by decide +kernel
theorem lo_df_tb : ∀ a, a < 16 → ∀ b, b < 16 → ∀ r, r < 4 → (lo_df a b).testBit r = (a.testBit r && !b.testBit r) := by decide +kernel
def lo_lw (a : Nat) : Nat := if a % 2 = 1 then 1 else if a / 2 % 2 = 1 then 2 else if a / 4 % 2 = 1 then 4 else if a / 8 % 2 = 1 then 8 else 0
theorem lb_lw : ∀ a, a < 16 → nI a &&& (-nI a) = nI (lo_lw a) := by decide +kernel
theorem lo_lw_in : ∀ a, a < 16 → a ≠ 0 → lo_lw a = 1 ∨ lo_lw a = 2 ∨ lo_lw a = 4 ∨ lo_lw a = 8 := by decide +kernel
theorem lo_lw_sub : ∀ a, a < 16 → ∀ r, r < 4 → (lo_lw a).testBit r = true → a.testBit r = true := by decide +kernel
theorem lo_lw_tb : ∀ a, a < 16 → a ≠ 0 → lo_lw a = a → ∃ k, k < 4 ∧ a = 2 ^ k := by decide +kernel
theorem lo_tb_2 : ∀ k, k < 4 → ∀ r, r < 4 → ((2 ^ k).testBit r = true ↔ r = k) := by decide +kernel
theorem lo_tb_ext : ∀ a, a < 16 → ∀ b, b < 16 → (∀ r, r < 4 → a.testBit r = b.testBit r) → a = b := by decide +kernel
theorem lo_tb_0 : ∀ a, a < 16 → (∀ r, r < 4 → a.testBit r = false) → a = 0 := by decide +kernel
def lo_pc (a : Nat) : Nat := lo_c (fun r => a.testBit r) 4
theorem lo_pc_0 : ∀ a, a < 16 → lo_pc a = 0 → a = 0 := by decide +kernel
theorem lo_pc_le (a : Nat) : lo_pc a ≤ 4 := lo_c_bd _ 4
/-- a set by its predicate -/
def lo_mk (p : Nat → Bool) : Nat → Nat
  | 0 => 0
  | k + 1 => if p k = true then lo_mk p k ||| 2 ^ k else lo_mk p k
theorem lo_mk_lt (p : Nat → Bool) : ∀ k, lo_mk p k < 2 ^ k
  | 0 => by show 0 < 1; omega
  | k + 1 => by
    have h := lo_mk_lt p k
    have h2 : (2 : Nat) ^ k < 2 ^ (k + 1) := Nat.pow_lt_pow_right (by decide) (by omega)
    show (if p k = true then lo_mk p k ||| 2 ^ k else lo_mk p k) < _
    cases p k
    · simp; omega
    · exact Nat.or_lt_two_pow (by omega) h2
theorem lo_mk_tb (p : Nat → Bool) : ∀ k r, (lo_mk p k).testBit r = (decide (r < k) && p r)
  | 0, r => by show (0 : Nat).testBit r = _; simp
  | k + 1, r => by
    have h := lo_mk_tb p k r
    show (if p k = true then lo_mk p k ||| 2 ^ k else lo_mk p k).testBit r = _
    by_cases e : r = k
    · subst e
      cases hp : p r
      · simp [h]
      · simp [hp, Nat.testBit_or, Nat.testBit_two_pow_self]
    · have d : decide (r < k + 1) = decide (r < k) := by
        by_cases z : r < k
        · rw [decide_eq_true z, decide_eq_true (by omega)]
        · rw [decide_eq_false z, decide_eq_false (by omega)]
      rw [d]
      cases hp : p k
      · simp [h]
      · simp [Nat.testBit_or, h, Nat.testBit_two_pow, show ¬ k = r by omega]
/-- the part that hangs together with the lowest atom -/
def lo_cs (m p : Nat) : Nat := if m &&& p = 0 then p else p ||| m
def lo_cr (m0 m1 m2 p : Nat) : Nat := lo_cs m2 (lo_cs m1 (lo_cs m0 p))
def lo_cp (m0 m1 m2 p : Nat) : Nat := lo_cr m0 m1 m2 (lo_cr m0 m1 m2 (lo_cr m0 m1 m2 (lo_cr m0 m1 m2 p)))
def lo_cq (m c : Nat) : Bool := (m &&& c == 0) || (m &&& c == m)
def lo_ct (m0 p : Nat) : Bool := (List.range 16).all (fun m1 => (List.range 16).all (fun m2 => let c := lo_cp m0 m1 m2 p; lo_cq m0 c && lo_cq m1 c && lo_cq m2 c))
theorem lo_ct1 : ∀ m0, m0 < 16 → lo_ct m0 1 = true := by decide +kernel
theorem lo_ct2 : ∀ m0, m0 < 16 → lo_ct m0 2 = true := by decide +kernel
theorem lo_ct4 : ∀ m0, m0 < 16 → lo_ct m0 4 = true := by decide +kernel
theorem lo_ct8 : ∀ m0, m0 < 16 → lo_ct m0 8 = true := by decide +kernel
theorem lo_cp_q {m0 m1 m2 p : Nat} (h0 : m0 < 16) (h1 : m1 < 16) (h2 : m2 < 16) (hp : p = 1 ∨ p = 2 ∨ p = 4 ∨ p = 8) : lo_cq m0 (lo_cp m0 m1 m2 p) = true ∧ lo_cq m1 (lo_cp m0 m1 m2 p) = true ∧ lo_cq m2 (lo_cp m0 m1 m2 p) = true := by
  have k : lo_ct m0 p = true := by
    rcases hp with rfl | rfl | rfl | rfl
    · exact lo_ct1 m0 h0
    · exact lo_ct2 m0 h0
    · exact lo_ct4 m0 h0
    · exact lo_ct8 m0 h0
  unfold lo_ct at k
  have k1 := List.all_eq_true.mp k m1 (List.mem_range.mpr h1)
  have k2 := List.all_eq_true.mp k1 m2 (List.mem_range.mpr h2)
  simp only [Bool.and_eq_true] at k2
  exact ⟨k2.1.1, k2.1.2, k2.2⟩
theorem lo_cs_lt {m p : Nat} (hm : m < 16) (hp : p < 16) : lo_cs m p < 16 := by
  unfold lo_cs
  by_cases z : m &&& p = 0
  · rw [if_pos z]; exact hp
  · rw [if_neg z]; exact Nat.or_lt_two_pow (n := 4) hp hm
theorem lo_cs_sub {m p a : Nat} (hm : ∀ r, r < 4 → m.testBit r = true → a.testBit r = true) (hp : ∀ r, r < 4 → p.testBit r = true → a.testBit r = true) : ∀ r, r < 4 → (lo_cs m p).testBit r = true → a.testBit r = true := by
  intro r hr
  unfold lo_cs
  by_cases z : m &&& p = 0
  · rw [if_pos z]; exact hp r hr
  · rw [if_neg z, Nat.testBit_or, Bool.or_eq_true]
    exact fun h => h.elim (hp r hr) (hm r hr)
theorem lo_cs_sup {m p r : Nat} (h : p.testBit r = true) : (lo_cs m p).testBit r = true := by
  unfold lo_cs
  by_cases z : m &&& p = 0
  · rw [if_pos z]; exact h
  · rw [if_neg z, Nat.testBit_or, h]; rfl
end
section
/-! the component's small methods -/
def lo_Q (fv sv : Nat → Int32) (q : Nat → Bool) (f s : Nat → Nat) : Prop := ∀ r, r < 4 → (q r = true → fv r = nI (f r) ∧ sv r = nI (s r) ∧ f r < 3 ∧ s r < 3) ∧ (q r = false → fv r = -1 ∧ sv r = -1)
def lo_V (L : Nat → Bool) (w : Nat → Nat) (wk : Nat → Int32) : Prop := ∀ i, i < 36 → (L i = true → wk i = nI (w i) ∧ w i ≤ 10) ∧ (L i = false → wk i = -1)
def lo_ap (q : Nat → Bool) (f s : Nat → Nat) (x : Nat) : Nat → Bool := fun r => q r && decide (f r = x ∨ s r = x)
def lo_aw (q : Nat → Bool) (f s : Nat → Nat) (x : Nat) : Nat := lo_mk (lo_ap q f s x) 4
theorem lb_neg1 : ∀ x, x < 64 → ¬ (-1 : Int32) = nI x := by decide +kernel
theorem lo_mk_t {p : Nat → Bool} {k : Nat} (h : p k = true) : lo_mk p (k + 1) = lo_mk p k ||| 2 ^ k := if_pos h
theorem lo_mk_f {p : Nat → Bool} {k : Nat} (h : p k = false) : lo_mk p (k + 1) = lo_mk p k := if_neg (by rw [h]; decide)
theorem lb_set {m r : Nat} (hr : r < 16) : nI m ||| ((1 : Int32) <<< (nI r &&& 31)) = nI (m ||| 2 ^ r) := by rw [lb_1s r hr, lb_or]
section
variable {ro am de ex : Int32} {sh : Int64} {li wk fv sv ki so va re vr tu dr sw ge : Nat → Int32} {ga : Nat → Int64}
variable {q : Nat → Bool} {f s : Nat → Nat} {L : Nat → Bool} {w : Nat → Nat}
theorem lx_aw4 (hq : lo_Q fv sv q f s) {x : Nat} (hx : x < 3) {post : Int32 → Prop} (h : post (nI (lo_aw q f s x))) : ∀ k r, r + k = 4 → wX_atomsWith_4 post (nI x) ro am de sh ex li wk fv sv ki so va re vr tu dr sw ga ge (k + 1) (nI (lo_mk (lo_ap q f s x) r)) (nI r) := by
  intro k
  induction k with
  | zero =>
    intro r hr
    have e : r = 4 := by omega
    subst e
    exact br_t (by decide) h
  | succ k ih =>
    intro r hr
    have hr4 : r < 4 := by omega
    have c : (nI r).toNatClampNeg = r := nI_clamp (by omega)
    have hi : vp_in (nI r) 4 := vp_in_nI hr4 (by decide)
    have next := ih (r + 1) (by omega)
    have e1 : nI r + 1 = nI (r + 1) := nI_1 r
    refine br_f (nI_ge (b := 4) hr4 (by decide)) ⟨hi, ?_⟩
    rw [c]
    cases hQ : q r
    · obtain ⟨a, b⟩ := (hq r hr4).2 hQ
      have n := lb_neg1 x (by omega)
      rw [a, b]
      rw [lo_mk_f (by unfold lo_ap; rw [hQ]; rfl)] at next
      exact br_f n ⟨hi, br_f n (nm_r e1 next)⟩
    · obtain ⟨a, b, hf, hs⟩ := (hq r hr4).1 hQ
      rw [a, b]
      refine pk_eq (f r) x (fun z => ?_) (fun z => ⟨hi, pk_eq (s r) x (fun z2 => ?_) (fun z2 => ?_)⟩)
      · rw [lo_mk_t (by unfold lo_ap; rw [hQ, decide_eq_true (Or.inl z)]; rfl)] at next
        exact nm_r (lb_set (by omega)) (nm_r e1 next)
      · rw [lo_mk_t (by unfold lo_ap; rw [hQ, decide_eq_true (Or.inr z2)]; rfl)] at next
        exact nm_r (lb_set (by omega)) (nm_r e1 next)
      · rw [lo_mk_f (by unfold lo_ap; rw [hQ, decide_eq_false (fun y => y.elim z z2)]; rfl)] at next
        exact nm_r e1 next
theorem lx_aw (hq : lo_Q fv sv q f s) {x : Nat} (hx : x < 3) {post : Int32 → Prop} (h : post (nI (lo_aw q f s x))) : wpX_atomsWith post (ro, am, de, sh, ex, li, wk, fv, sv, ki, so, va, re, vr, tu, dr, sw, ga, ge) (nI x) := ⟨5, lx_aw4 hq hx h 4 0 rfl⟩
theorem lx_val {v x : Nat} (hv : v < 64) (hx : x < 3) {post : Int32 → Prop} (h : post (nI (lo_vl v x))) : wpX_valueOf post (nI v) (nI x) := by
  unfold wpX_valueOf
  rw [lb_vl v hv x hx]
  exact h
theorem lx_free {v x : Nat} (hv : v < 64) (hx : x < 3) {post : Int32 → Prop} (h3 : lo_vl v x = 3 → post 1) (h0 : lo_vl v x ≠ 3 → post 0) : wpX_isFree post (ro, am, de, sh, ex, li, wk, fv, sv, ki, so, va, re, vr, tu, dr, sw, ga, ge) (nI v) (nI x) := by
  have := lo_vl_le v x
  unfold wpX_isFree
  exact lx_val hv hx (pk_eq (lo_vl v x) 3 h3 h0)
/-- the atoms of the set in which a variable without a value stands -/
def lo_mm (q : Nat → Bool) (f s : Nat → Nat) (a v x : Nat) : Nat := if lo_vl v x = 3 then lo_aw q f s x &&& a else 0
def lo_ci (m : Nat → Nat) : Nat → Nat → Nat → Nat
  | _, 0, p => p
  | x, k + 1, p => lo_ci m (x + 1) k (lo_cs (m x) p)
def lo_cj (m : Nat → Nat) : Nat → Nat → Nat
  | 0, p => p
  | k + 1, p => lo_cj m k (lo_ci m 0 3 p)
def lo_comp (q : Nat → Bool) (f s : Nat → Nat) (a v : Nat) : Nat := lo_cp (lo_mm q f s a v 0) (lo_mm q f s a v 1) (lo_mm q f s a v 2) (lo_lw a)
theorem lo_and_lt {a b : Nat} (h : b < 16) : a &&& b < 16 := Nat.lt_of_le_of_lt Nat.and_le_right h
theorem lo_mm_lt {a v x : Nat} (ha : a < 16) : lo_mm q f s a v x < 16 := by
  unfold lo_mm
  by_cases z : lo_vl v x = 3
  · rw [if_pos z]; exact lo_and_lt ha
  · rw [if_neg z]; omega
theorem lx_comp17 (hq : lo_Q fv sv q f s) {a v : Nat} (ha : a < 16) (hv : v < 64) {post : Int32 → Prop} {J : Int32 → Int32 → Prop} {x4 : Int32} : ∀ k x p, x + k = 3 → p < 16 → J (nI (lo_ci (lo_mm q f s a v) x k p)) (x4 + 1) → wX_componentOf_17 post J (nI a) (nI v) x4 ro am de sh ex li wk fv sv ki so va re vr tu dr sw ga ge (k + 1) (nI p) (nI x) := by
  intro k
  induction k with
  | zero =>
    intro x p hx hp h
    have e : x = 3 := by omega
    subst e
    exact br_t (by decide) (nm_e h)
  | succ k ih =>
    intro x p hx hp h
    have hx3 : x < 3 := by omega
    have next := ih (x + 1) (lo_cs (lo_mm q f s a v x) p) (by omega) (lo_cs_lt (lo_mm_lt ha) hp) h
    refine br_f (nI_ge (b := 3) hx3 (by decide)) (lx_aw hq hx3 (nm_r (nx_and _ _) (lx_free hv hx3 (fun z => br_f (by decide) ?_) (fun z => br_t rfl (nm_r (nI_1 x) ?_)))))
    · have e : lo_mm q f s a v x = lo_aw q f s x &&& a := if_pos z
      have hm : lo_aw q f s x &&& a < 16 := lo_and_lt ha
      have hmp : (lo_aw q f s x &&& a) &&& p < 16 := lo_and_lt hp
      rw [nx_and]
      refine pk_eq ((lo_aw q f s x &&& a) &&& p) 0 (fun y => nm_r (nI_1 x) ?_) (fun y => nm_r (lb_or _ _) (nm_r (nI_1 x) ?_))
      · rw [e, show lo_cs (lo_aw q f s x &&& a) p = p from if_pos y] at next
        exact next
      · rw [e, show lo_cs (lo_aw q f s x &&& a) p = p ||| (lo_aw q f s x &&& a) from if_neg y] at next
        exact next
    · have e : lo_mm q f s a v x = 0 := if_neg z
      rw [e, show lo_cs 0 p = p from if_pos (Nat.zero_and p)] at next
      exact next
theorem lo_ci_lt {m : Nat → Nat} (hm : ∀ x, m x < 16) : ∀ k x p, p < 16 → lo_ci m x k p < 16
  | 0, _, _, h => h
  | k + 1, x, p, h => lo_ci_lt hm k (x + 1) _ (lo_cs_lt (hm x) h)
theorem lx_comp8 (hq : lo_Q fv sv q f s) {a v : Nat} (ha : a < 16) (hv : v < 64) {post : Int32 → Prop} : ∀ k t p, t + k = 4 → p < 16 → post (nI (lo_cj (lo_mm q f s a v) k p)) → wX_componentOf_8 post (nI a) (nI v) ro am de sh ex li wk fv sv ki so va re vr tu dr sw ga ge (k + 1) (nI p) (nI t) := by
  intro k
  induction k with
  | zero =>
    intro t p ht hp h
    have e : t = 4 := by omega
    subst e
    exact br_t (by decide) h
  | succ k ih =>
    intro t p ht hp h
    refine br_f (nI_ge (b := 4) (by omega) (by decide)) ⟨4, lx_comp17 hq ha hv 3 0 p rfl hp ?_⟩
    rw [nI_1]
    exact ih (t + 1) _ (by omega) (lo_ci_lt (fun x => lo_mm_lt ha) 3 0 p hp) h
theorem lo_lw_lt (a : Nat) : lo_lw a < 16 := by
  unfold lo_lw
  split
  · omega
  · split
    · omega
    · split
      · omega
      · split <;> omega
theorem lx_comp (hq : lo_Q fv sv q f s) {a v : Nat} (ha : a < 16) (hv : v < 64) {post : Int32 → Prop} (h : post (nI (lo_comp q f s a v))) : wpX_componentOf post (ro, am, de, sh, ex, li, wk, fv, sv, ki, so, va, re, vr, tu, dr, sw, ga, ge) (nI a) (nI v) :=
  nm_r (lb_lw a ha) ⟨5, lx_comp8 hq ha hv 4 0 (lo_lw a) rfl (lo_lw_lt a) h⟩
theorem lx_ground2 (hq : lo_Q fv sv q f s) {a v : Nat} (ha : a < 16) (hv : v < 64) {post : Int32 → Prop} (h1 : (∀ y, y < 3 → lo_mm q f s a v y = 0) → post 1) (h0 : (∃ y, y < 3 ∧ lo_mm q f s a v y ≠ 0) → post 0) : ∀ k x, x + k = 3 → (∀ y, y < x → lo_mm q f s a v y = 0) → wX_isGround_2 post (nI a) (nI v) ro am de sh ex li wk fv sv ki so va re vr tu dr sw ga ge (k + 1) (nI x) := by
  intro k
  induction k with
  | zero =>
    intro x hx hb
    have e : x = 3 := by omega
    subst e
    exact br_t (by decide) (h1 hb)
  | succ k ih =>
    intro x hx hb
    have hx3 : x < 3 := by omega
    have hm : lo_aw q f s x &&& a < 16 := lo_and_lt ha
    refine br_f (nI_ge (b := 3) hx3 (by decide)) (lx_free hv hx3 (fun z => br_f (by decide) (lx_aw hq hx3 ?_)) (fun z => br_t rfl (nm_r (nI_1 x) (ih (x + 1) (by omega) (lt_s hb (if_neg z))))))
    have e : lo_mm q f s a v x = lo_aw q f s x &&& a := if_pos z
    rw [nx_and]
    refine pk_eq (lo_aw q f s x &&& a) 0 (fun y => nm_r (nI_1 x) (ih (x + 1) (by omega) (lt_s hb (e.trans y)))) (fun y => h0 ⟨x, hx3, by rw [e]; exact y⟩)
theorem lx_ground (hq : lo_Q fv sv q f s) {a v : Nat} (ha : a < 16) (hv : v < 64) {post : Int32 → Prop} (h1 : (∀ y, y < 3 → lo_mm q f s a v y = 0) → post 1) (h0 : (∃ y, y < 3 ∧ lo_mm q f s a v y ≠ 0) → post 0) : wpX_isGround post (ro, am, de, sh, ex, li, wk, fv, sv, ki, so, va, re, vr, tu, dr, sw, ga, ge) (nI a) (nI v) := ⟨4, lx_ground2 hq ha hv h1 h0 3 0 rfl lt_0⟩
theorem lx_cv2 (hq : lo_Q fv sv q f s) {a v : Nat} (ha : a < 16) (hv : v < 64) {post : Int32 → Prop} (h1 : ∀ x, x < 3 → lo_vl v x = 3 → lo_aw q f s x &&& a = a → (∀ y, y < x → ¬ (lo_vl v y = 3 ∧ lo_aw q f s y &&& a = a)) → post (nI x)) (h0 : (∀ x, x < 3 → ¬ (lo_vl v x = 3 ∧ lo_aw q f s x &&& a = a)) → post (-1)) : ∀ k x, x + k = 3 → (∀ y, y < x → ¬ (lo_vl v y = 3 ∧ lo_aw q f s y &&& a = a)) → wX_commonVariable_2 post (nI a) (nI v) ro am de sh ex li wk fv sv ki so va re vr tu dr sw ga ge (k + 1) (nI x) := by
  intro k
  induction k with
  | zero =>
    intro x hx hb
    have e : x = 3 := by omega
    subst e
    exact br_t (by decide) (h0 hb)
  | succ k ih =>
    intro x hx hb
    have hx3 : x < 3 := by omega
    have hm : lo_aw q f s x &&& a < 16 := lo_and_lt ha
    refine br_f (nI_ge (b := 3) hx3 (by decide)) (lx_free hv hx3 (fun z => br_f (by decide) (lx_aw hq hx3 ?_)) (fun z => br_t rfl (nm_r (nI_1 x) (ih (x + 1) (by omega) (lt_s hb (fun y => z y.1))))))
    rw [nx_and]
    exact pk_eq (lo_aw q f s x &&& a) a (fun y => h1 x hx3 z y hb) (fun y => nm_r (nI_1 x) (ih (x + 1) (by omega) (lt_s hb (fun y' => y y'.2))))
theorem lx_cv (hq : lo_Q fv sv q f s) {a v : Nat} (ha : a < 16) (hv : v < 64) {post : Int32 → Prop} (h1 : ∀ x, x < 3 → lo_vl v x = 3 → lo_aw q f s x &&& a = a → (∀ y, y < x → ¬ (lo_vl v y = 3 ∧ lo_aw q f s y &&& a = a)) → post (nI x)) (h0 : (∀ x, x < 3 → ¬ (lo_vl v x = 3 ∧ lo_aw q f s x &&& a = a)) → post (-1)) : wpX_commonVariable post (ro, am, de, sh, ex, li, wk, fv, sv, ki, so, va, re, vr, tu, dr, sw, ga, ge) (nI a) (nI v) := ⟨4, lx_cv2 hq ha hv h1 h0 3 0 rfl lt_0⟩
/-- the row of an atom under values -/
def lo_row (f s : Nat → Nat) (v r : Nat) : Nat := 9 * r + 3 * lo_vl v (f r) + lo_vl v (s r)
theorem lb_row (r a b : Nat) : ((9 * nI r) + (3 * nI a)) + nI b = nI (9 * r + 3 * a + b) := by
  show (nI 9 * nI r + nI 3 * nI a) + nI b = _
  rw [pk_mul, pk_mul, nI_add, nI_add]
theorem lx_row (hq : lo_Q fv sv q f s) {v r : Nat} (hv : v < 64) (hr : r < 4) (hQ : q r = true) {post : Int32 → Prop} (h : post (nI (lo_row f s v r))) : wpX_groundRow post (ro, am, de, sh, ex, li, wk, fv, sv, ki, so, va, re, vr, tu, dr, sw, ga, ge) (nI r) (nI v) := by
  obtain ⟨a, b, hf, hs⟩ := (hq r hr).1 hQ
  have hi : vp_in (nI r) 4 := vp_in_nI hr (by decide)
  unfold wpX_groundRow
  dsimp only
  rw [nI_clamp (show r < 2 ^ 31 by omega), a, b]
  refine ⟨hi, lx_val hv hf ⟨hi, lx_val hv hs ?_⟩⟩
  rw [lb_row]
  exact h
theorem lx_leave {d : Nat} {p : Int64} {e : Int32} {post : SX → Prop} (h : post (ro, am, nI d, p, e, li, wk, fv, sv, ki, so, va, re, vr, tu, dr, sw, ga, ge)) : wpX_leave post (ro, am, nI (d + 1), sh, ex, li, wk, fv, sv, ki, so, va, re, vr, tu, dr, sw, ga, ge) p e := nm_r (nI_pred d) h
theorem lx_enter {d : Nat} (hd : d < 48) {p e : Int32} {post : SX → Prop} (h : post (ro, am, nI (d + 1), sh, ex, li, wk, fv, sv, upd ki d 0, upd so d p, upd va d e, re, vr, tu, dr, sw, ga, ge)) : wpX_enter post (ro, am, nI d, sh, ex, li, wk, fv, sv, ki, so, va, re, vr, tu, dr, sw, ga, ge) p e := by
  have hi : vp_in (nI d) 48 := vp_in_nI hd (by decide)
  unfold wpX_enter
  dsimp only
  rw [nI_clamp (show d < 2 ^ 31 by omega)]
  exact ⟨hi, nm_e ⟨hi, nm_e ⟨hi, nm_e (nm_r (nI_1 d) h)⟩⟩⟩
theorem lx_pow {e : Nat} (he : e ≤ 10) {post : Int64 → Prop} (h : post (lN (10 ^ e))) : wpX_power post (nI e) := by
  have key : ∀ k t, t + k = e → wX_power_4 post (nI e) (k + 1) (lN (10 ^ t)) (nI t) := by
    intro k
    induction k with
    | zero =>
      intro t ht
      have q : t = e := by omega
      subst q
      exact br_t (nI_le (Nat.le_refl _) (by omega)) h
    | succ k ih =>
      intro t ht
      refine br_f (nI_ge (by omega) (by omega)) (br_f (nI_ge (b := 10) (by omega) (by decide)) (nm_r (e' := lN (10 ^ (t + 1))) ?_ (nm_r (nI_1 t) (ih (t + 1) (by omega)))))
      show lN (10 ^ t) * lN 10 = _
      rw [lN_mul, Nat.pow_succ]
  exact ⟨e + 1, key e 0 (by omega)⟩
end
end
section
/-! the component: ground atoms, rows that matter, what holds for sure, the start of deciding -/
theorem lb_d9 : ∀ i, i < 36 → nI i / 9 = nI (i / 9) := by decide +kernel
theorem lb_d3 : ∀ i, i < 36 → (nI i / 3) - (nI i / 3) / 3 * 3 = nI (i / 3 % 3) := by decide +kernel
theorem lb_r3 : ∀ i, i < 36 → nI i - nI i / 3 * 3 = nI (i % 3) := by decide +kernel
/-- the values of code c -/
def lo_fc (c : Nat) : Nat := c % 3 + 4 * (c / 3 % 3) + 16 * (c / 9)
theorem lb_fc : ∀ c, c < 27 → (((nI c - nI c / 3 * 3) ||| (((nI c / 3) - (nI c / 3) / 3 * 3) <<< ((2 : Int32) &&& 31))) ||| ((nI c / 9) <<< ((4 : Int32) &&& 31))) = nI (lo_fc c) := by decide +kernel
theorem lo_fc_lt : ∀ c, c < 27 → lo_fc c < 64 := by decide +kernel
theorem lo_fc_vl : ∀ c, c < 27 → ∀ x, x < 3 → lo_vl (lo_fc c) x < 3 := by decide +kernel
theorem lo_fc_in : ∀ a, a < 3 → ∀ b, b < 3 → ∀ c, c < 3 → lo_vl (lo_fc (a + 3 * b + 9 * c)) 0 = a ∧ lo_vl (lo_fc (a + 3 * b + 9 * c)) 1 = b ∧ lo_vl (lo_fc (a + 3 * b + 9 * c)) 2 = c := by decide +kernel
theorem lo_fc_of {σ : Nat → Nat} (h : ∀ x, x < 3 → σ x < 3) : ∃ c, c < 27 ∧ ∀ x, x < 3 → lo_vl (lo_fc c) x = σ x := by
  have h0 := h 0 (by omega)
  have h1 := h 1 (by omega)
  have h2 := h 2 (by omega)
  obtain ⟨a, b, c⟩ := lo_fc_in _ h0 _ h1 _ h2
  refine ⟨σ 0 + 3 * σ 1 + 9 * σ 2, by omega, fun x hx => ?_⟩
  rcases (by omega : x = 0 ∨ x = 1 ∨ x = 2) with z | z | z
  · subst z; exact a
  · subst z; exact b
  · subst z; exact c
theorem lo_row_lt {f s : Nat → Nat} {v r : Nat} (hr : r < 4) (h1 : lo_vl v (f r) < 3) (h2 : lo_vl v (s r) < 3) : lo_row f s v r < 36 := by
  unfold lo_row
  omega
/-- the row is decided, or doesn't matter -/
def lo_cl (L : Nat → Bool) (w f s : Nat → Nat) (a v j : Nat) : Prop := L j = true → lo_R f s (Nat.testBit a) (lo_vl v) j = true → w j = 0 ∨ w j = 10
section
variable {ro am de ex : Int32} {sh : Int64} {li wk fv sv ki so va re vr tu dr sw ge : Nat → Int32} {ga : Nat → Int64}
variable {q : Nat → Bool} {f s : Nat → Nat} {L : Nat → Bool} {w : Nat → Nat}
theorem lx_fin (hq : lo_Q fv sv q f s) (hV : lo_V L w wk) {k v d : Nat} (hk : k < 4) (hQ : q k = true) (hv : v < 64) (hrow : lo_row f s v k < 36) {post : SX → Prop} (h1 : L (lo_row f s v k) = true → post (ro, am, nI d, lN (w (lo_row f s v k)), nI 1, li, wk, fv, sv, ki, so, va, re, vr, tu, dr, sw, ga, ge)) (h0 : L (lo_row f s v k) = false → post (ro, am, nI d, lN 0, nI 0, li, wk, fv, sv, ki, so, va, re, vr, tu, dr, sw, ga, ge)) : wpX_finishGround post (ro, am, nI (d + 1), sh, ex, li, wk, fv, sv, ki, so, va, re, vr, tu, dr, sw, ga, ge) (nI (2 ^ k)) (nI v) := by
  have key : ∀ j t, t + j = 4 → wX_finishGround_5 post (nI (2 ^ k)) (nI v) ro am (nI (d + 1)) sh ex li wk fv sv ki so va re vr tu dr sw ga ge (j + 1) (nI (if k < t then k else 0)) (nI t) := by
    intro j
    induction j with
    | zero =>
      intro t ht
      have e : t = 4 := by omega
      subst e
      rw [if_pos hk]
      refine br_t (by decide) (lx_row hq hv hk hQ ⟨vp_in_nI hrow (by decide), ?_⟩)
      rw [nI_clamp (by omega)]
      cases hL : L (lo_row f s v k)
      · have e := (hV _ hrow).2 hL
        exact nm_r e (br_f (by decide) (lx_leave (h0 hL)))
      · obtain ⟨e, hw⟩ := (hV _ hrow).1 hL
        refine nm_r e (br_t (nI_pos' (by omega)) ?_)
        rw [nI_l (by omega)]
        exact lx_leave (h1 hL)
    | succ j ih =>
      intro t ht
      have ht4 : t < 4 := by omega
      have next := ih (t + 1) (by omega)
      have hb := nx_bit (k := 2 ^ k) (j := t) (Nat.lt_of_lt_of_le (Nat.pow_lt_pow_right (by decide) (show k < 4 by omega)) (by decide)) (by omega)
      refine br_f (nI_ge (b := 4) ht4 (by decide)) ?_
      by_cases e : t = k
      · have hn : ¬ (2 ^ k).testBit t = false := by rw [(lo_tb_2 k hk t ht4).mpr e]; decide
        refine br_f (fun z => hn (hb.mp z)) (nm_r (nI_1 t) ?_)
        rw [if_pos (by omega)] at next
        subst e
        exact next
      · have hn : (2 ^ k).testBit t = false := by
          cases y : (2 ^ k).testBit t
          · rfl
          · exact absurd ((lo_tb_2 k hk t ht4).mp y) e
        refine br_t (hb.mpr hn) (nm_r (nI_1 t) ?_)
        have e2 : (if k < t + 1 then k else 0) = (if k < t then k else 0) := by
          by_cases y : k < t
          · rw [if_pos y, if_pos (by omega)]
          · rw [if_neg y, if_neg (by omega)]
        rw [e2] at next
        exact next
  exact ⟨5, key 4 0 rfl⟩
theorem lx_r95_0 {x4 x5 x6 : Int32} {post : Int32 → Prop} (h : post 0) : wX_isRelevant_94 post x4 x5 x6 ro am de sh ex li wk fv sv ki so va re vr tu dr sw ga ge := by
  unfold wX_isRelevant_94 wX_isRelevant_95
  exact br_t rfl h
theorem lx_r95_1 (hq : lo_Q fv sv q f s) {r a b : Nat} (hr : r < 4) (hQ : q r = true) (ha : a < 3) (hb : b < 3) {post : Int32 → Prop} (h1 : (f r = s r → a = b) → post 1) (h0 : ¬ (f r = s r → a = b) → post 0) : wX_isRelevant_90 post (nI r) (nI a) (nI b) ro am de sh ex li wk fv sv ki so va re vr tu dr sw ga ge := by
  obtain ⟨e1, e2, hf, hs⟩ := (hq r hr).1 hQ
  have hi : vp_in (nI r) 4 := vp_in_nI hr (by decide)
  unfold wX_isRelevant_90 wX_isRelevant_95
  rw [nI_clamp (show r < 2 ^ 31 by omega), e1, e2]
  refine br_f (by decide) ⟨hi, hi, pk_eq (f r) (s r) (fun z => pk_eq a b (fun y => h1 (fun _ => y)) (fun y => h0 (fun k => y (k z)))) (fun z => h1 (fun k => absurd k z))⟩
theorem lx_rel (hq : lo_Q fv sv q f s) (hV : lo_V L w wk) {i a v : Nat} (hi : i < 36) (ha : a < 16) (haq : ∀ r, r < 4 → a.testBit r = true → q r = true) (hv : v < 64) {post : Int32 → Prop} (h1 : (L i && lo_R f s (Nat.testBit a) (lo_vl v) i) = true → post 1) (h0 : (L i && lo_R f s (Nat.testBit a) (lo_vl v) i) = false → post 0) : wpX_isRelevant post (ro, am, de, sh, ex, li, wk, fv, sv, ki, so, va, re, vr, tu, dr, sw, ga, ge) (nI i) (nI a) (nI v) := by
  have hr : i / 9 < 4 := by omega
  have hii : vp_in (nI i) 36 := vp_in_nI hi (by decide)
  have hri : vp_in (nI (i / 9)) 4 := vp_in_nI hr (by decide)
  unfold wpX_isRelevant
  dsimp only
  refine ⟨by decide, nm_r (lb_d9 i hi) ⟨hii, ?_⟩⟩
  rw [nI_clamp (show i < 2 ^ 31 by omega), nI_clamp (show i / 9 < 2 ^ 31 by omega)]
  cases hL : L i
  · rw [(hV i hi).2 hL]
    exact br_t (by decide) (h0 (by rw [hL]; rfl))
  · obtain ⟨ew, hw⟩ := (hV i hi).1 hL
    rw [hL, Bool.true_and] at h1 h0
    rw [ew]
    refine br_f (nI_pos (by omega)) ?_
    have hb := nx_bit (k := a) (j := i / 9) (by omega) (by omega)
    cases hB : a.testBit (i / 9)
    · refine br_t (hb.mpr hB) (h0 ?_)
      unfold lo_R
      rw [hB]
      exact decide_eq_false (fun z => absurd z.1 (by decide))
    · have hQ := haq _ hr hB
      obtain ⟨e1, e2, hf, hs⟩ := (hq _ hr).1 hQ
      have v1 := lo_vl_le v (f (i / 9))
      have v2 := lo_vl_le v (s (i / 9))
      have hn : ¬ a.testBit (i / 9) = false := by rw [hB]; decide
      refine br_f (fun z => hn (hb.mp z)) ⟨by decide, by decide, nm_r (lb_d3 i hi) ⟨by decide, nm_r (lb_r3 i hi) ⟨hri, ?_⟩⟩⟩
      rw [e1, e2]
      have join : (lo_vl v (f (i / 9)) = 3 ∨ lo_vl v (f (i / 9)) = i / 3 % 3) → wX_isRelevant_77 post (nI (i / 9)) (nI (i / 3 % 3)) (nI (i % 3)) (nI (lo_vl v (s (i / 9)))) ro am de sh ex li wk fv sv ki so va re vr tu dr sw ga ge := by
        intro c1
        unfold wX_isRelevant_77
        have fin : (lo_vl v (s (i / 9)) = 3 ∨ lo_vl v (s (i / 9)) = i % 3) → wX_isRelevant_90 post (nI (i / 9)) (nI (i / 3 % 3)) (nI (i % 3)) ro am de sh ex li wk fv sv ki so va re vr tu dr sw ga ge := by
          intro c2
          refine lx_r95_1 hq hr hQ (by omega) (by omega) (fun k => h1 ?_) (fun k => h0 ?_)
          · unfold lo_R
            exact decide_eq_true ⟨hB, c1, c2, k⟩
          · unfold lo_R
            exact decide_eq_false (fun z => k z.2.2.2)
        refine pk_eq (lo_vl v (s (i / 9))) 3 (fun z => fin (Or.inl z)) (fun z => pk_eq (lo_vl v (s (i / 9))) (i % 3) (fun y => fin (Or.inr y)) (fun y => lx_r95_0 (h0 ?_)))
        unfold lo_R
        exact decide_eq_false (fun k => k.2.2.1.elim z y)
      refine lx_val hv hf ⟨hri, lx_val hv hs ?_⟩
      refine pk_eq (lo_vl v (f (i / 9))) 3 (fun z => join (Or.inl z)) (fun z => pk_eq (lo_vl v (f (i / 9))) (i / 3 % 3) (fun y => join (Or.inr y)) (fun y => lx_r95_0 (h0 ?_)))
      unfold lo_R
      exact decide_eq_false (fun k => k.2.1.elim z y)
theorem lx_ext {u v : Nat} (hu : u < 64) (hv : v < 64) {post : Int32 → Prop} (h1 : (∀ y, y < 3 → lo_vl v y = 3 ∨ lo_vl u y = lo_vl v y) → post 1) (h0 : ¬ (∀ y, y < 3 → lo_vl v y = 3 ∨ lo_vl u y = lo_vl v y) → post 0) : wpX_extendsValues post (ro, am, de, sh, ex, li, wk, fv, sv, ki, so, va, re, vr, tu, dr, sw, ga, ge) (nI u) (nI v) := by
  have key : ∀ k x, x + k = 3 → (∀ y, y < x → lo_vl v y = 3 ∨ lo_vl u y = lo_vl v y) → wX_extendsValues_2 post (nI u) (nI v) ro am de sh ex li wk fv sv ki so va re vr tu dr sw ga ge (k + 1) (nI x) := by
    intro k
    induction k with
    | zero =>
      intro x hx hb
      have e : x = 3 := by omega
      subst e
      exact br_t (by decide) (h1 hb)
    | succ k ih =>
      intro x hx hb
      have hx3 : x < 3 := by omega
      have a1 := lo_vl_le v x
      have a2 := lo_vl_le u x
      refine br_f (nI_ge (b := 3) hx3 (by decide)) (lx_free hv hx3 (fun z => br_f (by decide) (nm_r (nI_1 x) (ih (x + 1) (by omega) (lt_s hb (Or.inl z))))) (fun z => br_t rfl (lx_val hv hx3 (lx_val hu hx3 ?_))))
      exact pk_eq (lo_vl v x) (lo_vl u x) (fun y => nm_r (nI_1 x) (ih (x + 1) (by omega) (lt_s hb (Or.inr y.symm)))) (fun y => h0 (fun g => (g x hx3).elim z (fun e => y e.symm)))
  exact ⟨4, key 3 0 rfl lt_0⟩
theorem lx_all (hq : lo_Q fv sv q f s) (hV : lo_V L w wk) {a u : Nat} (ha : a < 16) (haq : ∀ r, r < 4 → a.testBit r = true → q r = true) (hu : u < 64) (hu3 : ∀ x, x < 3 → lo_vl u x < 3) {post : Int32 → Prop} (h1 : (∀ r, r < 4 → a.testBit r = true → (L (lo_row f s u r) && decide (w (lo_row f s u r) = 10)) = true) → post 1) (h0 : ¬ (∀ r, r < 4 → a.testBit r = true → (L (lo_row f s u r) && decide (w (lo_row f s u r) = 10)) = true) → post 0) : wpX_allThere post (ro, am, de, sh, ex, li, wk, fv, sv, ki, so, va, re, vr, tu, dr, sw, ga, ge) (nI a) (nI u) := by
  have key : ∀ k r, r + k = 4 → (∀ y, y < r → a.testBit y = true → (L (lo_row f s u y) && decide (w (lo_row f s u y) = 10)) = true) → wX_allThere_2 post (nI a) (nI u) ro am de sh ex li wk fv sv ki so va re vr tu dr sw ga ge (k + 1) (nI r) := by
    intro k
    induction k with
    | zero =>
      intro r hr hb
      have e : r = 4 := by omega
      subst e
      exact br_t (by decide) (h1 hb)
    | succ k ih =>
      intro r hr hb
      have hr4 : r < 4 := by omega
      have hbit := nx_bit (k := a) (j := r) (by omega) (by omega)
      refine br_f (nI_ge (b := 4) hr4 (by decide)) ?_
      cases hB : a.testBit r
      · exact br_t (hbit.mpr hB) (nm_r (nI_1 r) (ih (r + 1) (by omega) (lt_s hb (fun z => by rw [hB] at z; exact absurd z (by decide)))))
      · have hn : ¬ a.testBit r = false := by rw [hB]; decide
        have hQ := haq r hr4 hB
        obtain ⟨_, _, hf, hs⟩ := (hq r hr4).1 hQ
        have hrow : lo_row f s u r < 36 := lo_row_lt hr4 (hu3 _ hf) (hu3 _ hs)
        refine br_f (fun z => hn (hbit.mp z)) (lx_row hq hu hr4 hQ ⟨vp_in_nI hrow (by decide), ?_⟩)
        rw [nI_clamp (show lo_row f s u r < 2 ^ 31 by omega)]
        have fin : (L (lo_row f s u r) && decide (w (lo_row f s u r) = 10)) = true ∨ ¬ (L (lo_row f s u r) && decide (w (lo_row f s u r) = 10)) = true := Classical.em _
        cases hL : L (lo_row f s u r)
        · rw [(hV _ hrow).2 hL]
          refine br_f (by decide) (h0 (fun g => ?_))
          have := g r hr4 hB
          rw [hL, Bool.false_and] at this
          exact absurd this (by decide)
        · obtain ⟨ew, hw⟩ := (hV _ hrow).1 hL
          rw [ew]
          refine pk_eq (w (lo_row f s u r)) 10 (fun z => nm_r (nI_1 r) (ih (r + 1) (by omega) (lt_s hb (fun _ => ?_)))) (fun z => h0 (fun g => ?_))
          · rw [hL, decide_eq_true z]; rfl
          · have := g r hr4 hB
            rw [hL, decide_eq_false z] at this
            exact absurd this (by decide)
  exact ⟨5, key 4 0 rfl lt_0⟩
theorem lx_sure (hq : lo_Q fv sv q f s) (hV : lo_V L w wk) {a v : Nat} (ha : a < 16) (haq : ∀ r, r < 4 → a.testBit r = true → q r = true) (hv : v < 64) {post : Int32 → Prop} (h1 : lo_H f s (Nat.testBit a) (lo_vl v) (fun i => L i && decide (w i = 10)) → post 1) (h0 : ¬ lo_H f s (Nat.testBit a) (lo_vl v) (fun i => L i && decide (w i = 10)) → post 0) : wpX_holdsForSure post (ro, am, de, sh, ex, li, wk, fv, sv, ki, so, va, re, vr, tu, dr, sw, ga, ge) (nI a) (nI v) := by
  have key : ∀ k c, c + k = 27 → (∀ y, y < c → ¬ ((∀ x, x < 3 → lo_vl v x = 3 ∨ lo_vl (lo_fc y) x = lo_vl v x) ∧ ∀ r, r < 4 → a.testBit r = true → (L (lo_row f s (lo_fc y) r) && decide (w (lo_row f s (lo_fc y) r) = 10)) = true)) → wX_holdsForSure_2 post (nI a) (nI v) ro am de sh ex li wk fv sv ki so va re vr tu dr sw ga ge (k + 1) (nI c) := by
    intro k
    induction k with
    | zero =>
      intro c hc hb
      have e : c = 27 := by omega
      subst e
      refine br_t (by decide) (h0 ?_)
      rintro ⟨σ, g1, g2⟩
      obtain ⟨c, hc', hσ⟩ := lo_fc_of (fun x hx => (g1 x hx).1)
      refine hb c hc' ⟨fun x hx => ?_, fun r hr hB => ?_⟩
      · rw [hσ x hx]; exact (g1 x hx).2
      · obtain ⟨_, _, hf, hs⟩ := (hq r hr).1 (haq r hr hB)
        have e : lo_row f s (lo_fc c) r = 9 * r + 3 * σ (f r) + σ (s r) := by unfold lo_row; rw [hσ _ hf, hσ _ hs]
        rw [e]
        exact g2 r hr hB
    | succ k ih =>
      intro c hc hb
      have hc27 : c < 27 := by omega
      refine br_f (nI_ge (b := 27) hc27 (by decide)) ⟨by decide, by decide, by decide, by decide, nm_r (lb_fc c hc27) (lx_ext (lo_fc_lt c hc27) hv (fun z => br_f (by decide) ?_) (fun z => br_t rfl (nm_r (nI_1 c) (ih (c + 1) (by omega) (lt_s hb (fun y => z y.1))))))⟩
      refine lx_all hq hV ha haq (lo_fc_lt c hc27) (lo_fc_vl c hc27) (fun y => br_f (by decide) (h1 ?_)) (fun y => br_t rfl (nm_r (nI_1 c) (ih (c + 1) (by omega) (lt_s hb (fun y' => y y'.2)))))
      exact ⟨lo_vl (lo_fc c), fun x hx => ⟨lo_fc_vl c hc27 x hx, z x hx⟩, fun r hr hB => y r hr hB⟩
  exact ⟨28, key 27 0 rfl lt_0⟩
theorem lx_start (hq : lo_Q fv sv q f s) (hV : lo_V L w wk) {d a v : Nat} (hd : d + 1 < 48) (ha : a < 16) (haq : ∀ r, r < 4 → a.testBit r = true → q r = true) (hv : v < 64) (hC : lo_C L f s (Nat.testBit a) (lo_vl v) ≤ 10) {post : SX → Prop}
    (hleaf : (∀ i, i < 36 → lo_cl L w f s a v i) → (lo_H f s (Nat.testBit a) (lo_vl v) (fun i => L i && decide (w i = 10)) → post (ro, am, nI d, lN (10 ^ lo_C L f s (Nat.testBit a) (lo_vl v)), nI (lo_C L f s (Nat.testBit a) (lo_vl v)), li, wk, fv, sv, ki, so, va, re, vr, tu, dr, sw, ga, ge)) ∧ (¬ lo_H f s (Nat.testBit a) (lo_vl v) (fun i => L i && decide (w i = 10)) → post (ro, am, nI d, lN 0, nI (lo_C L f s (Nat.testBit a) (lo_vl v)), li, wk, fv, sv, ki, so, va, re, vr, tu, dr, sw, ga, ge)))
    (hrow : ∀ o, o < 36 → L o = true → lo_R f s (Nat.testBit a) (lo_vl v) o = true → 0 < w o → w o < 10 → (∀ j, o < j → j < 36 → lo_cl L w f s a v j) → post (ro, am, nI (d + 2), sh, ex, li, upd wk o 10, fv, sv, upd (upd ki d 3) (d + 1) 0, upd so (d + 1) (nI a), upd va (d + 1) (nI v), re, vr, tu, upd dr d (nI o), upd sw d (nI (w o)), ga, ge)) : wpX_startDeciding post (ro, am, nI (d + 1), sh, ex, li, wk, fv, sv, ki, so, va, re, vr, tu, dr, sw, ga, ge) (nI d) (nI a) (nI v) := by
  have hdi : vp_in (nI d) 48 := vp_in_nI (by omega) (by decide)
  have key : ∀ k i (x4 : Int32), i + k = 36 → ((x4 = -1 ∧ ∀ j, j < i → lo_cl L w f s a v j) ∨ (∃ o, o < 36 ∧ x4 = nI o ∧ L o = true ∧ lo_R f s (Nat.testBit a) (lo_vl v) o = true ∧ 0 < w o ∧ w o < 10 ∧ ∀ j, o < j → j < i → lo_cl L w f s a v j)) → wX_startDeciding_9 post (nI d) (nI a) (nI v) ro am (nI (d + 1)) sh ex li wk fv sv ki so va re vr tu dr sw ga ge (k + 1) x4 (nI (lo_c (fun i => L i && lo_R f s (Nat.testBit a) (lo_vl v) i) i)) (nI i) := by
    intro k
    induction k with
    | zero =>
      intro i x4 hi hx
      have e : i = 36 := by omega
      subst e
      refine br_t (by decide) ?_
      rcases hx with ⟨rfl, hx⟩ | ⟨o, ho, rfl, hL, hR, hw0, hw1, hlast⟩
      · refine br_f (by decide) (lx_sure hq hV ha haq hv (fun z => br_f (by decide) (lx_pow hC ?_)) (fun z => br_t rfl ?_))
        · exact lx_leave ((hleaf hx).1 z)
        · exact lx_leave ((hleaf hx).2 z)
      · have hoi : vp_in (nI o) 36 := vp_in_nI ho (by decide)
        have ew := ((hV o ho).1 hL).1
        refine br_t (nI_pos' (by omega)) ?_
        rw [nI_clamp (show d < 2 ^ 31 by omega), nI_clamp (show o < 2 ^ 31 by omega), ew]
        exact ⟨hdi, nm_e ⟨hdi, nm_e ⟨hoi, hdi, nm_e ⟨hoi, nm_e (lx_enter (d := d + 1) hd (hrow o ho hL hR hw0 hw1 hlast))⟩⟩⟩⟩
    | succ k ih =>
      intro i x4 hi hx
      have hi36 : i < 36 := by omega
      have hii : vp_in (nI i) 36 := vp_in_nI hi36 (by decide)
      refine br_f (nI_ge (b := 36) hi36 (by decide)) (lx_rel hq hV hi36 ha haq hv (fun z => br_f (by decide) ?_) (fun z => br_t rfl (nm_r (nI_1 i) ?_)))
      · have z' := z
        rw [Bool.and_eq_true] at z'
        obtain ⟨hL, hR⟩ := z'
        obtain ⟨ew, hw⟩ := (hV i hi36).1 hL
        have next := fun x4 => ih (i + 1) x4 (by omega)
        have e : lo_c (fun i => L i && lo_R f s (Nat.testBit a) (lo_vl v) i) (i + 1) = lo_c (fun i => L i && lo_R f s (Nat.testBit a) (lo_vl v) i) i + 1 := by
          show _ + (L i && lo_R f s (Nat.testBit a) (lo_vl v) i).toNat = _
          rw [z]; rfl
        rw [e] at next
        have keep : (w i = 0 ∨ w i = 10) → ((x4 = -1 ∧ ∀ j, j < i + 1 → lo_cl L w f s a v j) ∨ (∃ o, o < 36 ∧ x4 = nI o ∧ L o = true ∧ lo_R f s (Nat.testBit a) (lo_vl v) o = true ∧ 0 < w o ∧ w o < 10 ∧ ∀ j, o < j → j < i + 1 → lo_cl L w f s a v j)) := by
          intro hw'
          rcases hx with ⟨hx1, hx2⟩ | ⟨o, o1, o2, o3, o4, o5, o6, o7⟩
          · exact Or.inl ⟨hx1, lt_s hx2 (fun _ _ => hw')⟩
          · exact Or.inr ⟨o, o1, o2, o3, o4, o5, o6, fun j p1 p2 => lt_s (p := fun j => o < j → lo_cl L w f s a v j) (fun j p2 p1 => o7 j p1 p2) (fun _ _ _ => hw') j p2 p1⟩
        refine nm_r (nI_1 _) ⟨hii, ?_⟩
        rw [nI_clamp (show i < 2 ^ 31 by omega), ew]
        refine pk_le (w i) 0 (fun y => nm_r (nI_1 i) (next x4 (keep (by omega)))) (fun y => ⟨hii, pk_le 10 (w i) (fun y2 => nm_r (nI_1 i) (next x4 (keep (by omega)))) (fun y2 => nm_r (nI_1 i) (next (nI i) (Or.inr ⟨i, hi36, rfl, hL, hR, y, y2, fun j p1 p2 => absurd p1 (by omega)⟩)))⟩)
      · have next := ih (i + 1) x4 (by omega)
        have e : lo_c (fun i => L i && lo_R f s (Nat.testBit a) (lo_vl v) i) (i + 1) = lo_c (fun i => L i && lo_R f s (Nat.testBit a) (lo_vl v) i) i := by
          show _ + (L i && lo_R f s (Nat.testBit a) (lo_vl v) i).toNat = _
          rw [z]; rfl
        rw [e] at next
        refine next ?_
        have hcl : lo_cl L w f s a v i := by
          intro hL hR
          rw [hL, hR] at z
          exact absurd z (by decide)
        rcases hx with ⟨hx1, hx2⟩ | ⟨o, o1, o2, o3, o4, o5, o6, o7⟩
        · exact Or.inl ⟨hx1, lt_s hx2 hcl⟩
        · exact Or.inr ⟨o, o1, o2, o3, o4, o5, o6, fun j p1 p2 => lt_s (p := fun j => o < j → lo_cl L w f s a v j) (fun j p2 p1 => o7 j p1 p2) (fun _ => hcl) j p2 p1⟩
  exact ⟨37, key 36 0 (-1) rfl (Or.inl ⟨rfl, lt_0⟩)⟩
end
end
section
/-! the machine of frames: its states, its runs, its rules -/
abbrev lm_FR : Type := (Nat → Int32) × (Nat → Int32) × (Nat → Int32) × (Nat → Int32) × (Nat → Int32) × (Nat → Int32) × (Nat → Int32) × (Nat → Int32) × (Nat → Int64) × (Nat → Int32)
abbrev lm_T : Type := Nat × Int64 × Int32 × (Nat → Int32) × lm_FR
def lm_ev (ro am : Int32) (li fv sv : Nat → Int32) (post : Int64 → SX → Prop) (n k : Nat) (T : lm_T) : Prop := match T with
  | (d, sh, ex, wk, ki, so, va, re, vr, tu, dr, sw, ga, ge) => wX_evaluateAll_44 post n (nI k) ro am (nI d) sh ex li wk fv sv ki so va re vr tu dr sw ga ge
def lm_RT (ro am : Int32) (li fv sv : Nat → Int32) (c : Nat) (T T' : lm_T) : Prop := ∀ (post : Int64 → SX → Prop) (n k : Nat), k + c ≤ 100000 → lm_ev ro am li fv sv post n (k + c) T' → lm_ev ro am li fv sv post (n + c) k T
theorem lm_tr {ro am : Int32} {li fv sv : Nat → Int32} {c1 c2 : Nat} {T T1 T2 : lm_T} (h1 : lm_RT ro am li fv sv c1 T T1) (h2 : lm_RT ro am li fv sv c2 T1 T2) : lm_RT ro am li fv sv (c1 + c2) T T2 := by
  intro post n k hk h
  have a := h2 post n (k + c1) (by omega) (by rw [Nat.add_assoc]; exact h)
  have b := h1 post (n + c2) k (by omega) a
  rw [show n + (c1 + c2) = n + c2 + c1 by omega]
  exact b
/-- the frames below d are the same -/
def lm_Ag (d : Nat) (F G : lm_FR) : Prop := ∀ j, j < d → G.1 j = F.1 j ∧ G.2.1 j = F.2.1 j ∧ G.2.2.1 j = F.2.2.1 j ∧ G.2.2.2.1 j = F.2.2.2.1 j ∧ G.2.2.2.2.1 j = F.2.2.2.2.1 j ∧ G.2.2.2.2.2.1 j = F.2.2.2.2.2.1 j ∧ G.2.2.2.2.2.2.1 j = F.2.2.2.2.2.2.1 j ∧ G.2.2.2.2.2.2.2.1 j = F.2.2.2.2.2.2.2.1 j ∧ G.2.2.2.2.2.2.2.2.1 j = F.2.2.2.2.2.2.2.2.1 j ∧ G.2.2.2.2.2.2.2.2.2 j = F.2.2.2.2.2.2.2.2.2 j
theorem lm_Ag_tr {d e : Nat} {F G H : lm_FR} (h : d ≤ e) (a : lm_Ag d F G) (b : lm_Ag e G H) : lm_Ag d F H := by
  intro j hj
  obtain ⟨a0, a1, a2, a3, a4, a5, a6, a7, a8, a9⟩ := a j hj
  obtain ⟨b0, b1, b2, b3, b4, b5, b6, b7, b8, b9⟩ := b j (by omega)
  exact ⟨b0.trans a0, b1.trans a1, b2.trans a2, b3.trans a3, b4.trans a4, b5.trans a5, b6.trans a6, b7.trans a7, b8.trans a8, b9.trans a9⟩
def lm_fresh (F : lm_FR) (d a v : Nat) : Prop := F.1 d = 0 ∧ F.2.1 d = nI a ∧ F.2.2.1 d = nI v
def lm_prod (F : lm_FR) (d v rs g e : Nat) : Prop := F.1 d = 1 ∧ F.2.2.1 d = nI v ∧ F.2.2.2.1 d = nI rs ∧ F.2.2.2.2.2.2.2.2.1 d = lN g ∧ F.2.2.2.2.2.2.2.2.2 d = nI e
def lm_proj (F : lm_FR) (d a v x t g e : Nat) : Prop := F.1 d = 2 ∧ F.2.1 d = nI a ∧ F.2.2.1 d = nI v ∧ F.2.2.2.2.1 d = nI x ∧ F.2.2.2.2.2.1 d = nI t ∧ F.2.2.2.2.2.2.2.2.1 d = lN g ∧ F.2.2.2.2.2.2.2.2.2 d = nI e
def lm_pres (F : lm_FR) (d a v o z : Nat) : Prop := F.1 d = 3 ∧ F.2.1 d = nI a ∧ F.2.2.1 d = nI v ∧ F.2.2.2.2.2.2.1 d = nI o ∧ F.2.2.2.2.2.2.2.1 d = nI z
def lm_abs (F : lm_FR) (d o z g : Nat) : Prop := F.1 d = 4 ∧ F.2.2.2.2.2.2.1 d = nI o ∧ F.2.2.2.2.2.2.2.1 d = nI z ∧ F.2.2.2.2.2.2.2.2.1 d = lN g
theorem lm_prod_ag {F G : lm_FR} {d e v rs g x : Nat} (h : lm_Ag e F G) (hd : d < e) (ha : lm_prod F d v rs g x) : lm_prod G d v rs g x := by
  obtain ⟨b0, b1, b2, b3, b4, b5, b6, b7, b8, b9⟩ := h d hd
  obtain ⟨a0, a1, a2, a3, a4⟩ := ha
  exact ⟨b0.trans a0, b2.trans a1, b3.trans a2, b8.trans a3, b9.trans a4⟩
theorem lm_proj_ag {F G : lm_FR} {d e a v x t g y : Nat} (h : lm_Ag e F G) (hd : d < e) (ha : lm_proj F d a v x t g y) : lm_proj G d a v x t g y := by
  obtain ⟨b0, b1, b2, b3, b4, b5, b6, b7, b8, b9⟩ := h d hd
  obtain ⟨a0, a1, a2, a3, a4, a5, a6⟩ := ha
  exact ⟨b0.trans a0, b1.trans a1, b2.trans a2, b4.trans a3, b5.trans a4, b8.trans a5, b9.trans a6⟩
theorem lm_pres_ag {F G : lm_FR} {d e a v o z : Nat} (h : lm_Ag e F G) (hd : d < e) (ha : lm_pres F d a v o z) : lm_pres G d a v o z := by
  obtain ⟨b0, b1, b2, b3, b4, b5, b6, b7, b8, b9⟩ := h d hd
  obtain ⟨a0, a1, a2, a3, a4⟩ := ha
  exact ⟨b0.trans a0, b1.trans a1, b2.trans a2, b6.trans a3, b7.trans a4⟩
theorem lm_abs_ag {F G : lm_FR} {d e o z g : Nat} (h : lm_Ag e F G) (hd : d < e) (ha : lm_abs F d o z g) : lm_abs G d o z g := by
  obtain ⟨b0, b1, b2, b3, b4, b5, b6, b7, b8, b9⟩ := h d hd
  obtain ⟨a0, a1, a2, a3⟩ := ha
  exact ⟨b0.trans a0, b6.trans a1, b7.trans a2, b8.trans a3⟩
section
variable {ro am ex ex' : Int32} {sh sh' : Int64} {li fv sv wk wk' : Nat → Int32} {F G : lm_FR} {d d' : Nat}
theorem lm_step0 (hd : d < 48) (hk : F.1 d = 0) (hb : ∀ post : SX → Prop, post (ro, am, nI d', sh', ex', li, wk', fv, sv, G) → wpX_begin post (ro, am, nI (d + 1), sh, ex, li, wk, fv, sv, F) (nI d)) : lm_RT ro am li fv sv 1 (d + 1, sh, ex, wk, F) (d', sh', ex', wk', G) := by
  obtain ⟨ki, so, va, re, vr, tu, dr, sw, ga, ge⟩ := F
  obtain ⟨ki2, so2, va2, re2, vr2, tu2, dr2, sw2, ga2, ge2⟩ := G
  intro post n k hk' h
  have hi : vp_in (nI d) 48 := vp_in_nI hd (by decide)
  show wX_evaluateAll_44 post (n + 1) (nI k) ro am (nI (d + 1)) sh ex li wk fv sv ki so va re vr tu dr sw ga ge
  refine br_f (nI_ge (b := 100000) (by omega) (by decide)) (br_f (nI_nle (by omega) (by omega)) (nm_r (nI_pred d) ⟨hi, ?_⟩))
  rw [nI_clamp (show d < 2 ^ 31 by omega)]
  exact br_t hk (hb _ (nm_r (nI_1 k) h))
theorem lm_step1 (hd : d < 48) (hk : F.1 d = 1) (hb : ∀ post : SX → Prop, post (ro, am, nI d', sh', ex', li, wk', fv, sv, G) → wpX_goOnProduct post (ro, am, nI (d + 1), sh, ex, li, wk, fv, sv, F) (nI d)) : lm_RT ro am li fv sv 1 (d + 1, sh, ex, wk, F) (d', sh', ex', wk', G) := by
  obtain ⟨ki, so, va, re, vr, tu, dr, sw, ga, ge⟩ := F
  obtain ⟨ki2, so2, va2, re2, vr2, tu2, dr2, sw2, ga2, ge2⟩ := G
  intro post n k hk' h
  have hi : vp_in (nI d) 48 := vp_in_nI hd (by decide)
  have hk2 : ki d = 1 := hk
  show wX_evaluateAll_44 post (n + 1) (nI k) ro am (nI (d + 1)) sh ex li wk fv sv ki so va re vr tu dr sw ga ge
  refine br_f (nI_ge (b := 100000) (by omega) (by decide)) (br_f (nI_nle (by omega) (by omega)) (nm_r (nI_pred d) ⟨hi, ?_⟩))
  rw [nI_clamp (show d < 2 ^ 31 by omega), hk2]
  exact br_f (by decide) ⟨hi, br_t rfl (hb _ (nm_r (nI_1 k) h))⟩
theorem lm_step2 (hd : d < 48) (hk : F.1 d = 2) (hb : ∀ post : SX → Prop, post (ro, am, nI d', sh', ex', li, wk', fv, sv, G) → wpX_goOnProject post (ro, am, nI (d + 1), sh, ex, li, wk, fv, sv, F) (nI d)) : lm_RT ro am li fv sv 1 (d + 1, sh, ex, wk, F) (d', sh', ex', wk', G) := by
  obtain ⟨ki, so, va, re, vr, tu, dr, sw, ga, ge⟩ := F
  obtain ⟨ki2, so2, va2, re2, vr2, tu2, dr2, sw2, ga2, ge2⟩ := G
  intro post n k hk' h
  have hi : vp_in (nI d) 48 := vp_in_nI hd (by decide)
  have hk2 : ki d = 2 := hk
  show wX_evaluateAll_44 post (n + 1) (nI k) ro am (nI (d + 1)) sh ex li wk fv sv ki so va re vr tu dr sw ga ge
  refine br_f (nI_ge (b := 100000) (by omega) (by decide)) (br_f (nI_nle (by omega) (by omega)) (nm_r (nI_pred d) ⟨hi, ?_⟩))
  rw [nI_clamp (show d < 2 ^ 31 by omega), hk2]
  exact br_f (by decide) ⟨hi, br_f (by decide) ⟨hi, br_t rfl (hb _ (nm_r (nI_1 k) h))⟩⟩
theorem lm_step3 (hd : d < 48) (hk : F.1 d = 3 ∨ F.1 d = 4) (hb : ∀ post : SX → Prop, post (ro, am, nI d', sh', ex', li, wk', fv, sv, G) → wpX_goOnDeciding post (ro, am, nI (d + 1), sh, ex, li, wk, fv, sv, F) (nI d)) : lm_RT ro am li fv sv 1 (d + 1, sh, ex, wk, F) (d', sh', ex', wk', G) := by
  obtain ⟨ki, so, va, re, vr, tu, dr, sw, ga, ge⟩ := F
  obtain ⟨ki2, so2, va2, re2, vr2, tu2, dr2, sw2, ga2, ge2⟩ := G
  intro post n k hk' h
  have hi : vp_in (nI d) 48 := vp_in_nI hd (by decide)
  have n0 : ¬ ki d = 0 := fun z => by
    have hk2 : ki d = 3 ∨ ki d = 4 := hk
    rw [z] at hk2
    exact absurd hk2 (by decide)
  have n1 : ¬ ki d = 1 := fun z => by
    have hk2 : ki d = 3 ∨ ki d = 4 := hk
    rw [z] at hk2
    exact absurd hk2 (by decide)
  have n2 : ¬ ki d = 2 := fun z => by
    have hk2 : ki d = 3 ∨ ki d = 4 := hk
    rw [z] at hk2
    exact absurd hk2 (by decide)
  show wX_evaluateAll_44 post (n + 1) (nI k) ro am (nI (d + 1)) sh ex li wk fv sv ki so va re vr tu dr sw ga ge
  refine br_f (nI_ge (b := 100000) (by omega) (by decide)) (br_f (nI_nle (by omega) (by omega)) (nm_r (nI_pred d) ⟨hi, ?_⟩))
  rw [nI_clamp (show d < 2 ^ 31 by omega)]
  exact br_f n0 ⟨hi, br_f n1 ⟨hi, br_f n2 (hb _ (nm_r (nI_1 k) h))⟩⟩
end
end
section
/-! the machine's rules, each tied to the printed predicate -/
section
variable {ro am ex : Int32} {sh : Int64} {li fv sv wk : Nat → Int32} {F : lm_FR} {d : Nat}
variable {q : Nat → Bool} {f s : Nat → Nat} {L : Nat → Bool} {w : Nat → Nat}
theorem lm_begin0 {v : Nat} (hd : d < 48) (hF : lm_fresh F d 0 v) : ∃ G, lm_RT ro am li fv sv 1 (d + 1, sh, ex, wk, F) (d, lN 1, nI 0, wk, G) ∧ lm_Ag d F G := by
  obtain ⟨ki, so, va, re, vr, tu, dr, sw, ga, ge⟩ := F
  obtain ⟨k0, k1, k2⟩ := hF
  have hi : vp_in (nI d) 48 := vp_in_nI hd (by decide)
  refine ⟨(ki, so, va, re, vr, tu, dr, sw, vp_updL ga d 1, upd ge d 0), lm_step0 hd k0 (fun post h => ?_), fun j hj => ?_⟩
  · unfold wpX_begin
    dsimp only
    rw [nI_clamp (show d < 2 ^ 31 by omega)]
    exact ⟨hi, nm_r k1 ⟨hi, nm_r k2 ⟨hi, nm_e ⟨hi, nm_e (br_t rfl (lx_leave h))⟩⟩⟩⟩
  · have n1 : j ≠ d := by omega
    simp [upd, vp_updL, n1]
theorem lm_begin1 (hq : lo_Q fv sv q f s) {a v : Nat} (hd : d + 1 < 48) (ha : a < 16) (hv : v < 64) (h0 : a ≠ 0) (hc : lo_comp q f s a v ≠ a) (hcl : lo_comp q f s a v < 16) (hF : lm_fresh F d a v) : ∃ G, lm_RT ro am li fv sv 1 (d + 1, sh, ex, wk, F) (d + 2, sh, ex, wk, G) ∧ lm_Ag d F G ∧ lm_prod G d v (lo_df a (lo_comp q f s a v)) 1 0 ∧ lm_fresh G (d + 1) (lo_comp q f s a v) v := by
  obtain ⟨ki, so, va, re, vr, tu, dr, sw, ga, ge⟩ := F
  obtain ⟨k0, k1, k2⟩ := hF
  have hi : vp_in (nI d) 48 := vp_in_nI (by omega) (by decide)
  refine ⟨(upd (upd ki d 1) (d + 1) 0, upd so (d + 1) (nI (lo_comp q f s a v)), upd va (d + 1) (nI v), upd re d (nI (lo_df a (lo_comp q f s a v))), vr, tu, dr, sw, vp_updL ga d 1, upd ge d 0), lm_step0 (by omega) k0 (fun post h => ?_), fun j hj => ?_, ?_, ?_⟩
  · unfold wpX_begin
    dsimp only
    rw [nI_clamp (show d < 2 ^ 31 by omega)]
    refine ⟨hi, nm_r k1 ⟨hi, nm_r k2 ⟨hi, nm_e ⟨hi, nm_e (br_f (nI_ne0 (by omega) (by omega)) (lx_comp hq ha hv (br_f (fun z => hc ((nI_eq (by omega) (by omega)).mp z)) ⟨hi, nm_e ⟨hi, nm_r (congrArg (upd re d) (lb_df a ha _ hcl)) ?_⟩⟩)))⟩⟩⟩⟩
    exact lx_enter (d := d + 1) hd h
  · have n1 : j ≠ d := by omega
    have n2 : j ≠ d + 1 := by omega
    simp [upd, vp_updL, n1, n2]
  · refine ⟨by simp [upd], ?_, pk_us, pk_uLs, pk_us⟩
    exact (pk_un (by omega)).trans k2
  · exact ⟨pk_us, pk_us, pk_us⟩
theorem lm_begin2 (hq : lo_Q fv sv q f s) (hV : lo_V L w wk) {k v : Nat} (hd : d < 48) (hk : k < 4) (hQ : q k = true) (hv : v < 64) (hc : lo_comp q f s (2 ^ k) v = 2 ^ k) (hg : ∀ y, y < 3 → lo_mm q f s (2 ^ k) v y = 0) (hrow : lo_row f s v k < 36) {x e : Nat} (hx : (L (lo_row f s v k) = true ∧ x = w (lo_row f s v k) ∧ e = 1) ∨ (L (lo_row f s v k) = false ∧ x = 0 ∧ e = 0)) (hF : lm_fresh F d (2 ^ k) v) : ∃ G, lm_RT ro am li fv sv 1 (d + 1, sh, ex, wk, F) (d, lN x, nI e, wk, G) ∧ lm_Ag d F G := by
  obtain ⟨ki, so, va, re, vr, tu, dr, sw, ga, ge⟩ := F
  obtain ⟨k0, k1, k2⟩ := hF
  have hi : vp_in (nI d) 48 := vp_in_nI (by omega) (by decide)
  have ha : 2 ^ k < 16 := Nat.pow_lt_pow_right (a := 2) (n := 4) (by decide) hk
  have ha0 : 0 < 2 ^ k := Nat.two_pow_pos k
  refine ⟨(ki, so, va, re, vr, tu, dr, sw, vp_updL ga d 1, upd ge d 0), lm_step0 hd k0 (fun post h => ?_), fun j hj => ?_⟩
  · unfold wpX_begin
    dsimp only
    rw [nI_clamp (show d < 2 ^ 31 by omega)]
    refine ⟨hi, nm_r k1 ⟨hi, nm_r k2 ⟨hi, nm_e ⟨hi, nm_e (br_f (nI_ne0 ha0 (by omega)) (lx_comp hq ha hv (br_t (congrArg nI hc) (lx_ground hq ha hv (fun _ => br_f (by decide) ?_) (fun z => ?_)))))⟩⟩⟩⟩
    · refine lx_fin hq hV hk hQ hv hrow (fun hL => ?_) (fun hL => ?_)
      · rcases hx with ⟨_, rfl, rfl⟩ | ⟨z, _⟩
        · exact h
        · rw [hL] at z; exact absurd z (by decide)
      · rcases hx with ⟨z, _⟩ | ⟨_, rfl, rfl⟩
        · rw [hL] at z; exact absurd z (by decide)
        · exact h
    · obtain ⟨y, hy, ny⟩ := z
      exact absurd (hg y hy) ny
  · have n1 : j ≠ d := by omega
    simp [upd, vp_updL, n1]
theorem lm_begin3 (hq : lo_Q fv sv q f s) {a v x : Nat} (hd : d + 1 < 48) (ha : a < 16) (hv : v < 64) (h0 : a ≠ 0) (hc : lo_comp q f s a v = a) (hg : ∃ y, y < 3 ∧ lo_mm q f s a v y ≠ 0) (hx : x < 3) (hx1 : lo_vl v x = 3 ∧ lo_aw q f s x &&& a = a) (hx2 : ∀ y, y < x → ¬ (lo_vl v y = 3 ∧ lo_aw q f s y &&& a = a)) (hF : lm_fresh F d a v) : ∃ G, lm_RT ro am li fv sv 1 (d + 1, sh, ex, wk, F) (d + 2, sh, ex, wk, G) ∧ lm_Ag d F G ∧ lm_proj G d a v x 0 1 0 ∧ lm_fresh G (d + 1) a (lo_vset v x 0) := by
  obtain ⟨ki, so, va, re, vr, tu, dr, sw, ga, ge⟩ := F
  obtain ⟨k0, k1, k2⟩ := hF
  have hi : vp_in (nI d) 48 := vp_in_nI (by omega) (by decide)
  refine ⟨(upd (upd ki d 2) (d + 1) 0, upd so (d + 1) (nI a), upd va (d + 1) (nI (lo_vset v x 0)), re, upd vr d (nI x), upd tu d 0, dr, sw, vp_updL ga d 1, upd ge d 0), lm_step0 (by omega) k0 (fun post h => ?_), fun j hj => ?_, ?_, ?_⟩
  · unfold wpX_begin
    dsimp only
    rw [nI_clamp (show d < 2 ^ 31 by omega)]
    refine ⟨hi, nm_r k1 ⟨hi, nm_r k2 ⟨hi, nm_e ⟨hi, nm_e (br_f (nI_ne0 (by omega) (by omega)) (lx_comp hq ha hv (br_t (congrArg nI hc) (lx_ground hq ha hv (fun z => ?_) (fun _ => br_t rfl (lx_cv hq ha hv (fun y hy y1 y2 y3 => ?_) (fun z => absurd hx1 (z x hx))))))))⟩⟩⟩⟩
    · obtain ⟨y, hy, ny⟩ := hg
      exact absurd (z y hy) ny
    · have e : y = x := by
        rcases Nat.lt_trichotomy y x with z | z | z
        · exact absurd ⟨y1, y2⟩ (hx2 y z)
        · exact z
        · exact absurd hx1 (y3 x z)
      subst e
      refine br_f (nI_pos (by omega)) ⟨hi, nm_e ⟨hi, nm_e ⟨hi, nm_e ?_⟩⟩⟩
      rw [lb_vset0 v hv y hx]
      exact lx_enter (d := d + 1) hd h
  · have n1 : j ≠ d := by omega
    have n2 : j ≠ d + 1 := by omega
    simp [upd, vp_updL, n1, n2]
  · refine ⟨by simp [upd], ?_, ?_, pk_us, pk_us, pk_uLs, pk_us⟩
    · exact (pk_un (by omega)).trans k1
    · exact (pk_un (by omega)).trans k2
  · exact ⟨pk_us, pk_us, pk_us⟩
/-- a frame that decides rows -/
def lm_D (q : Nat → Bool) (f s : Nat → Nat) (a v : Nat) : Prop := a ≠ 0 ∧ lo_comp q f s a v = a ∧ (∃ y, y < 3 ∧ lo_mm q f s a v y ≠ 0) ∧ ∀ x, x < 3 → ¬ (lo_vl v x = 3 ∧ lo_aw q f s x &&& a = a)
theorem lm_begin4 (hq : lo_Q fv sv q f s) (hV : lo_V L w wk) {a v : Nat} (hd : d + 1 < 48) (ha : a < 16) (haq : ∀ r, r < 4 → a.testBit r = true → q r = true) (hv : v < 64) (hD : lm_D q f s a v) (hC : lo_C L f s (Nat.testBit a) (lo_vl v) ≤ 10) (hcl : ∀ i, i < 36 → lo_cl L w f s a v i) {x : Nat} (hx : (lo_H f s (Nat.testBit a) (lo_vl v) (fun i => L i && decide (w i = 10)) ∧ x = 10 ^ lo_C L f s (Nat.testBit a) (lo_vl v)) ∨ (¬ lo_H f s (Nat.testBit a) (lo_vl v) (fun i => L i && decide (w i = 10)) ∧ x = 0)) (hF : lm_fresh F d a v) : ∃ G, lm_RT ro am li fv sv 1 (d + 1, sh, ex, wk, F) (d, lN x, nI (lo_C L f s (Nat.testBit a) (lo_vl v)), wk, G) ∧ lm_Ag d F G := by
  obtain ⟨ki, so, va, re, vr, tu, dr, sw, ga, ge⟩ := F
  obtain ⟨k0, k1, k2⟩ := hF
  obtain ⟨h0, hc, hg, hn⟩ := hD
  have hi : vp_in (nI d) 48 := vp_in_nI (by omega) (by decide)
  refine ⟨(ki, so, va, re, vr, tu, dr, sw, vp_updL ga d 1, upd ge d 0), lm_step0 (by omega) k0 (fun post h => ?_), fun j hj => ?_⟩
  · unfold wpX_begin
    dsimp only
    rw [nI_clamp (show d < 2 ^ 31 by omega)]
    refine ⟨hi, nm_r k1 ⟨hi, nm_r k2 ⟨hi, nm_e ⟨hi, nm_e (br_f (nI_ne0 (by omega) (by omega)) (lx_comp hq ha hv (br_t (congrArg nI hc) (lx_ground hq ha hv (fun z => ?_) (fun _ => br_t rfl (lx_cv hq ha hv (fun y hy y1 y2 y3 => absurd ⟨y1, y2⟩ (hn y hy)) (fun z => br_t (by decide) ?_)))))))⟩⟩⟩⟩
    · obtain ⟨y, hy, ny⟩ := hg
      exact absurd (z y hy) ny
    · refine lx_start hq hV hd ha haq hv hC (fun _ => ⟨fun z => ?_, fun z => ?_⟩) (fun o ho hL hR w0 w1 _ => ?_)
      · rcases hx with ⟨_, rfl⟩ | ⟨y, _⟩
        · exact h
        · exact absurd z y
      · rcases hx with ⟨y, _⟩ | ⟨_, rfl⟩
        · exact absurd y z
        · exact h
      · have := hcl o ho hL hR
        omega
  · have n1 : j ≠ d := by omega
    simp [upd, vp_updL, n1]
theorem lm_begin5 (hq : lo_Q fv sv q f s) (hV : lo_V L w wk) {a v o : Nat} (hd : d + 1 < 48) (ha : a < 16) (haq : ∀ r, r < 4 → a.testBit r = true → q r = true) (hv : v < 64) (hD : lm_D q f s a v) (hC : lo_C L f s (Nat.testBit a) (lo_vl v) ≤ 10) (ho : o < 36) (hL : L o = true) (hR : lo_R f s (Nat.testBit a) (lo_vl v) o = true) (hw0 : 0 < w o) (hw1 : w o < 10) (hlast : ∀ j, o < j → j < 36 → lo_cl L w f s a v j) (hF : lm_fresh F d a v) : ∃ G, lm_RT ro am li fv sv 1 (d + 1, sh, ex, wk, F) (d + 2, sh, ex, upd wk o 10, G) ∧ lm_Ag d F G ∧ lm_pres G d a v o (w o) ∧ lm_fresh G (d + 1) a v := by
  obtain ⟨ki, so, va, re, vr, tu, dr, sw, ga, ge⟩ := F
  obtain ⟨k0, k1, k2⟩ := hF
  obtain ⟨h0, hc, hg, hn⟩ := hD
  have hi : vp_in (nI d) 48 := vp_in_nI (by omega) (by decide)
  refine ⟨(upd (upd ki d 3) (d + 1) 0, upd so (d + 1) (nI a), upd va (d + 1) (nI v), re, vr, tu, upd dr d (nI o), upd sw d (nI (w o)), vp_updL ga d 1, upd ge d 0), lm_step0 (by omega) k0 (fun post h => ?_), fun j hj => ?_, ?_, ?_⟩
  · unfold wpX_begin
    dsimp only
    rw [nI_clamp (show d < 2 ^ 31 by omega)]
    refine ⟨hi, nm_r k1 ⟨hi, nm_r k2 ⟨hi, nm_e ⟨hi, nm_e (br_f (nI_ne0 (by omega) (by omega)) (lx_comp hq ha hv (br_t (congrArg nI hc) (lx_ground hq ha hv (fun z => ?_) (fun _ => br_t rfl (lx_cv hq ha hv (fun y hy y1 y2 y3 => absurd ⟨y1, y2⟩ (hn y hy)) (fun z => br_t (by decide) ?_)))))))⟩⟩⟩⟩
    · obtain ⟨y, hy, ny⟩ := hg
      exact absurd (z y hy) ny
    · refine lx_start hq hV hd ha haq hv hC (fun y => ?_) (fun o' ho' hL' hR' w0 w1 hl' => ?_)
      · have := y o ho hL hR
        omega
      · have e : o' = o := by
          rcases Nat.lt_trichotomy o' o with z | z | z
          · have := hl' o z ho hL hR; omega
          · exact z
          · have := hlast o' z ho' hL' hR'; omega
        subst e
        exact h
  · have n1 : j ≠ d := by omega
    have n2 : j ≠ d + 1 := by omega
    simp [upd, vp_updL, n1, n2]
  · refine ⟨by simp [upd], ?_, ?_, pk_us, pk_us⟩
    · exact (pk_un (by omega)).trans k1
    · exact (pk_un (by omega)).trans k2
  · exact ⟨pk_us, pk_us, pk_us⟩
theorem lm_prodE {v g e x y : Nat} (hd : d < 48) (hF : lm_prod F d v 0 g e) : ∃ G, lm_RT ro am li fv sv 1 (d + 1, lN x, nI y, wk, F) (d, lN (g * x), nI (e + y), wk, G) ∧ lm_Ag d F G := by
  obtain ⟨ki, so, va, re, vr, tu, dr, sw, ga, ge⟩ := F
  obtain ⟨k0, k1, k2, k3, k4⟩ := hF
  have hi : vp_in (nI d) 48 := vp_in_nI hd (by decide)
  have r2 : re d = nI 0 := k2
  have r3 : ga d = lN g := k3
  have r4 : ge d = nI e := k4
  refine ⟨(ki, so, va, re, vr, tu, dr, sw, vp_updL ga d (lN (g * x)), upd ge d (nI (e + y))), lm_step1 hd k0 (fun post h => ?_), fun j hj => ?_⟩
  · unfold wpX_goOnProduct
    dsimp only
    rw [nI_clamp (show d < 2 ^ 31 by omega), r2, r3, r4, lN_mul, nI_add]
    refine ⟨hi, hi, nm_e ⟨hi, hi, nm_e ⟨hi, br_t rfl ⟨hi, hi, ?_⟩⟩⟩⟩
    rw [pk_uLs, pk_us]
    exact lx_leave h
  · have n1 : j ≠ d := by omega
    simp [upd, vp_updL, n1]
theorem lm_prodN (hq : lo_Q fv sv q f s) {v rs g e x y : Nat} (hd : d + 1 < 48) (hr : rs < 16) (hr0 : rs ≠ 0) (hv : v < 64) (hcl : lo_comp q f s rs v < 16) (hF : lm_prod F d v rs g e) : ∃ G, lm_RT ro am li fv sv 1 (d + 1, lN x, nI y, wk, F) (d + 2, lN x, nI y, wk, G) ∧ lm_Ag d F G ∧ lm_prod G d v (lo_df rs (lo_comp q f s rs v)) (g * x) (e + y) ∧ lm_fresh G (d + 1) (lo_comp q f s rs v) v := by
  obtain ⟨ki, so, va, re, vr, tu, dr, sw, ga, ge⟩ := F
  obtain ⟨k0, k1, k2, k3, k4⟩ := hF
  have hi : vp_in (nI d) 48 := vp_in_nI (by omega) (by decide)
  have r1 : va d = nI v := k1
  have r2 : re d = nI rs := k2
  have r3 : ga d = lN g := k3
  have r4 : ge d = nI e := k4
  refine ⟨(upd ki (d + 1) 0, upd so (d + 1) (nI (lo_comp q f s rs v)), upd va (d + 1) (nI v), upd re d (nI (lo_df rs (lo_comp q f s rs v))), vr, tu, dr, sw, vp_updL ga d (lN (g * x)), upd ge d (nI (e + y))), lm_step1 (by omega) k0 (fun post h => ?_), fun j hj => ?_, ?_, ?_⟩
  · unfold wpX_goOnProduct
    dsimp only
    rw [nI_clamp (show d < 2 ^ 31 by omega), r1, r2, r3, r4, lN_mul, nI_add]
    refine ⟨hi, hi, nm_e ⟨hi, hi, nm_e ⟨hi, br_f (nI_ne0 (by omega) (by omega)) ⟨hi, hi, lx_comp hq hr hv ⟨hi, hi, nm_r (congrArg (upd re d) (lb_df rs hr _ hcl)) ⟨hi, ?_⟩⟩⟩⟩⟩⟩
    exact lx_enter (d := d + 1) hd h
  · have n1 : j ≠ d := by omega
    have n2 : j ≠ d + 1 := by omega
    simp [upd, vp_updL, n1, n2]
  · exact ⟨(pk_un (by omega)).trans k0, (pk_un (by omega)).trans k1, pk_us, pk_uLs, pk_us⟩
  · exact ⟨pk_us, pk_us, pk_us⟩
theorem lm_projN {a v x t g e y z : Nat} (hd : d + 1 < 48) (hv : v < 64) (hx : x < 3) (ht : t + 1 < 3) (hz : z ≤ 10) (hy : y ≤ 10 ^ z) (hF : lm_proj F d a v x t g e) : ∃ G, lm_RT ro am li fv sv 1 (d + 1, lN y, nI z, wk, F) (d + 2, lN y, nI z, wk, G) ∧ lm_Ag d F G ∧ lm_proj G d a v x (t + 1) (g * (10 ^ z - y)) (e + z) ∧ lm_fresh G (d + 1) a (lo_vset v x (t + 1)) := by
  obtain ⟨ki, so, va, re, vr, tu, dr, sw, ga, ge⟩ := F
  obtain ⟨k0, k1, k2, k3, k4, k5, k6⟩ := hF
  have hi : vp_in (nI d) 48 := vp_in_nI (by omega) (by decide)
  have r1 : so d = nI a := k1
  have r2 : va d = nI v := k2
  have r3 : vr d = nI x := k3
  have r4 : tu d = nI t := k4
  have r5 : ga d = lN g := k5
  have r6 : ge d = nI e := k6
  refine ⟨(upd ki (d + 1) 0, upd so (d + 1) (nI a), upd va (d + 1) (nI (lo_vset v x (t + 1))), re, vr, upd tu d (nI (t + 1)), dr, sw, vp_updL ga d (lN (g * (10 ^ z - y))), upd ge d (nI (e + z))), lm_step2 (by omega) k0 (fun post h => ?_), fun j hj => ?_, ?_, ?_⟩
  · unfold wpX_goOnProject
    dsimp only
    rw [nI_clamp (show d < 2 ^ 31 by omega), r1, r2, r3, r4, r5, r6]
    refine ⟨hi, lx_pow hz ?_⟩
    rw [lN_sub hy, lN_mul, nI_add, nI_1]
    refine ⟨hi, nm_e ⟨hi, hi, nm_e ⟨hi, hi, nm_e ⟨hi, nm_e ⟨hi, ?_⟩⟩⟩⟩⟩
    rw [pk_us]
    refine br_f (nI_ge (b := 3) ht (by decide)) ⟨hi, hi, hi, ?_⟩
    rw [lb_vset v hv x hx (t + 1) ht]
    exact lx_enter (d := d + 1) hd h
  · have n1 : j ≠ d := by omega
    have n2 : j ≠ d + 1 := by omega
    simp [upd, vp_updL, n1, n2]
  · exact ⟨(pk_un (by omega)).trans k0, (pk_un (by omega)).trans k1, (pk_un (by omega)).trans k2, k3, pk_us, pk_uLs, pk_us⟩
  · exact ⟨pk_us, pk_us, pk_us⟩
theorem lm_projE {a v x g e y z : Nat} (hd : d < 48) (hz : z ≤ 10) (hy : y ≤ 10 ^ z) (he : e + z ≤ 10) (hg : g * (10 ^ z - y) ≤ 10 ^ (e + z)) (hF : lm_proj F d a v x 2 g e) : ∃ G, lm_RT ro am li fv sv 1 (d + 1, lN y, nI z, wk, F) (d, lN (10 ^ (e + z) - g * (10 ^ z - y)), nI (e + z), wk, G) ∧ lm_Ag d F G := by
  obtain ⟨ki, so, va, re, vr, tu, dr, sw, ga, ge⟩ := F
  obtain ⟨k0, k1, k2, k3, k4, k5, k6⟩ := hF
  have hi : vp_in (nI d) 48 := vp_in_nI (by omega) (by decide)
  have r3 : vr d = nI x := k3
  have r4 : tu d = nI 2 := k4
  have r5 : ga d = lN g := k5
  have r6 : ge d = nI e := k6
  refine ⟨(ki, so, va, re, vr, upd tu d (nI 3), dr, sw, vp_updL ga d (lN (g * (10 ^ z - y))), upd ge d (nI (e + z))), lm_step2 (by omega) k0 (fun post h => ?_), fun j hj => ?_⟩
  · unfold wpX_goOnProject
    dsimp only
    rw [nI_clamp (show d < 2 ^ 31 by omega), r3, r4, r5, r6]
    refine ⟨hi, lx_pow hz ?_⟩
    rw [lN_sub hy, lN_mul, nI_add, nI_1]
    refine ⟨hi, nm_e ⟨hi, hi, nm_e ⟨hi, hi, nm_e ⟨hi, nm_e ⟨hi, ?_⟩⟩⟩⟩⟩
    rw [pk_us, pk_us, pk_uLs]
    refine br_t (by decide) ⟨hi, lx_pow he ⟨hi, hi, ?_⟩⟩
    rw [lN_sub hg]
    exact lx_leave h
  · have n1 : j ≠ d := by omega
    simp [upd, vp_updL, n1]
theorem lm_dec1 {a v o z x y : Nat} (hd : d + 1 < 48) (ho : o < 36) (hz : z ≤ 10) (hF : lm_pres F d a v o z) : ∃ G, lm_RT ro am li fv sv 1 (d + 1, lN x, nI y, wk, F) (d + 2, lN x, nI y, upd wk o 0, G) ∧ lm_Ag d F G ∧ lm_abs G d o z (x * z) ∧ lm_fresh G (d + 1) a v := by
  obtain ⟨ki, so, va, re, vr, tu, dr, sw, ga, ge⟩ := F
  obtain ⟨k0, k1, k2, k3, k4⟩ := hF
  have hi : vp_in (nI d) 48 := vp_in_nI (by omega) (by decide)
  have hoi : vp_in (nI o) 36 := vp_in_nI ho (by decide)
  have r0 : ki d = 3 := k0
  have r1 : so d = nI a := k1
  have r2 : va d = nI v := k2
  have r3 : dr d = nI o := k3
  have r4 : sw d = nI z := k4
  refine ⟨(upd (upd ki d 4) (d + 1) 0, upd so (d + 1) (nI a), upd va (d + 1) (nI v), re, vr, tu, dr, sw, vp_updL ga d (lN (x * z)), ge), lm_step3 (by omega) (Or.inl k0) (fun post h => ?_), fun j hj => ?_, ?_, ?_⟩
  · unfold wpX_goOnDeciding
    dsimp only
    rw [nI_clamp (show d < 2 ^ 31 by omega), r0, r1, r2, r3, r4, nI_clamp (show o < 2 ^ 31 by omega), nI_l (show z < 2 ^ 31 by omega), lN_mul]
    refine ⟨hi, br_t rfl ⟨hi, nm_e ⟨hi, hi, nm_e ⟨hi, hoi, nm_e ⟨hi, hi, ?_⟩⟩⟩⟩⟩
    exact lx_enter (d := d + 1) hd h
  · have n1 : j ≠ d := by omega
    have n2 : j ≠ d + 1 := by omega
    simp [upd, vp_updL, n1, n2]
  · exact ⟨by simp [upd], k3, k4, pk_uLs⟩
  · exact ⟨pk_us, pk_us, pk_us⟩
theorem lm_dec2 {o z g x y : Nat} (hd : d < 48) (ho : o < 36) (hz : z ≤ 10) (hb : g + x * (10 - z) < 2 ^ 63) (hF : lm_abs F d o z g) : lm_RT ro am li fv sv 1 (d + 1, lN x, nI y, wk, F) (d, lN ((g + x * (10 - z)) / 10), nI y, upd wk o (nI z), F) := by
  obtain ⟨ki, so, va, re, vr, tu, dr, sw, ga, ge⟩ := F
  obtain ⟨k0, k1, k2, k3⟩ := hF
  have hi : vp_in (nI d) 48 := vp_in_nI (by omega) (by decide)
  have hoi : vp_in (nI o) 36 := vp_in_nI ho (by decide)
  have r0 : ki d = 4 := k0
  have r1 : dr d = nI o := k1
  have r2 : sw d = nI z := k2
  have r3 : ga d = lN g := k3
  refine lm_step3 hd (Or.inr k0) (fun post h => ?_)
  unfold wpX_goOnDeciding
  dsimp only
  rw [nI_clamp (show d < 2 ^ 31 by omega), r0, r1, r2, r3, nI_clamp (show o < 2 ^ 31 by omega), show (10 : Int32) - nI z = nI (10 - z) from pk_sub (a := 10) hz, nI_l (show 10 - z < 2 ^ 31 by omega), lN_mul, lN_add]
  refine ⟨hi, br_f (by decide) ⟨hi, hi, hoi, nm_e ⟨hi, hi, nm_e ⟨by decide, ?_⟩⟩⟩⟩
  rw [show lN (g + x * (10 - z)) / 10 = lN ((g + x * (10 - z)) / 10) from pk_lDiv (b := 10) hb (by decide) (by decide)]
  exact lx_leave h
end
end
section
/-! the parts of a set of atoms; counts of undecided rows -/
section
variable {q : Nat → Bool} {f s : Nat → Nat} {L : Nat → Bool} {w : Nat → Nat}
theorem lo_cr_lt {m0 m1 m2 p : Nat} (h0 : m0 < 16) (h1 : m1 < 16) (h2 : m2 < 16) (hp : p < 16) : lo_cr m0 m1 m2 p < 16 := lo_cs_lt h2 (lo_cs_lt h1 (lo_cs_lt h0 hp))
theorem lo_comp_lt {a v : Nat} (ha : a < 16) : lo_comp q f s a v < 16 := by
  have h := fun x => lo_mm_lt (q := q) (f := f) (s := s) (a := a) (v := v) (x := x) ha
  exact lo_cr_lt (h 0) (h 1) (h 2) (lo_cr_lt (h 0) (h 1) (h 2) (lo_cr_lt (h 0) (h 1) (h 2) (lo_cr_lt (h 0) (h 1) (h 2) (lo_lw_lt a))))
theorem lo_mm_sub {a v x : Nat} : ∀ r, r < 4 → (lo_mm q f s a v x).testBit r = true → a.testBit r = true := by
  intro r _ h
  unfold lo_mm at h
  by_cases z : lo_vl v x = 3
  · rw [if_pos z, Nat.testBit_and, Bool.and_eq_true] at h
    exact h.2
  · rw [if_neg z, Nat.zero_testBit] at h
    exact absurd h (by decide)
theorem lo_comp_sub {a v : Nat} (ha : a < 16) : ∀ r, r < 4 → (lo_comp q f s a v).testBit r = true → a.testBit r = true := by
  have h := fun x => lo_mm_sub (q := q) (f := f) (s := s) (a := a) (v := v) (x := x)
  have k : ∀ p : Nat, (∀ r, r < 4 → p.testBit r = true → a.testBit r = true) → ∀ r, r < 4 → (lo_cr (lo_mm q f s a v 0) (lo_mm q f s a v 1) (lo_mm q f s a v 2) p).testBit r = true → a.testBit r = true := fun p hp => lo_cs_sub (h 2) (lo_cs_sub (h 1) (lo_cs_sub (h 0) hp))
  exact k _ (k _ (k _ (k _ (lo_lw_sub a ha))))
theorem lo_comp_sup {a v r : Nat} (h : (lo_lw a).testBit r = true) : (lo_comp q f s a v).testBit r = true := by
  have k : ∀ p : Nat, p.testBit r = true → (lo_cr (lo_mm q f s a v 0) (lo_mm q f s a v 1) (lo_mm q f s a v 2) p).testBit r = true := fun p hp => lo_cs_sup (lo_cs_sup (lo_cs_sup hp))
  exact k _ (k _ (k _ (k _ h)))
theorem lo_comp_ne {a v : Nat} (ha : a < 16) (h0 : a ≠ 0) : lo_comp q f s a v ≠ 0 := by
  intro e
  have k : ∀ r, (lo_lw a).testBit r = true → False := by
    intro r h
    have := lo_comp_sup (q := q) (f := f) (s := s) (v := v) h
    rw [e, Nat.zero_testBit] at this
    exact absurd this (by decide)
  rcases lo_lw_in a ha h0 with z | z | z | z
  · exact k 0 (by rw [z]; decide)
  · exact k 1 (by rw [z]; decide)
  · exact k 2 (by rw [z]; decide)
  · exact k 3 (by rw [z]; decide)
theorem lo_comp_g {a v : Nat} (hg : ∀ y, y < 3 → lo_mm q f s a v y = 0) : lo_comp q f s a v = lo_lw a := by
  unfold lo_comp
  rw [hg 0 (by omega), hg 1 (by omega), hg 2 (by omega)]
  have k : ∀ p, lo_cr 0 0 0 p = p := by
    intro p
    have c : ∀ p, lo_cs 0 p = p := fun p => if_pos (Nat.zero_and p)
    unfold lo_cr
    rw [c, c, c]
  unfold lo_cp
  rw [k, k, k, k]
theorem lo_mm_tb {a v x r : Nat} (hx : lo_vl v x = 3) (hr : r < 4) (ha : a.testBit r = true) (hq : q r = true) (ho : f r = x ∨ s r = x) : (lo_mm q f s a v x).testBit r = true := by
  unfold lo_mm lo_aw
  rw [if_pos hx, Nat.testBit_and, lo_mk_tb, ha, decide_eq_true hr]
  unfold lo_ap
  rw [hq, decide_eq_true ho]
  rfl
/-- no variable without a value stands in both -/
def lo_no (f s : Nat → Nat) (v a b : Nat) : Prop := ∀ x, x < 3 → lo_vl v x = 3 → lo_occ f s (Nat.testBit a) x → lo_occ f s (Nat.testBit b) x → False
theorem lo_comp_no {a v : Nat} (ha : a < 16) (h0 : a ≠ 0) (haq : ∀ r, r < 4 → a.testBit r = true → q r = true) : lo_no f s v (lo_comp q f s a v) (lo_df a (lo_comp q f s a v)) := by
  intro x hx hv
  rintro ⟨r1, hr1, b1, o1⟩ ⟨r2, hr2, b2, o2⟩
  have hm := fun x => lo_mm_lt (q := q) (f := f) (s := s) (a := a) (v := v) (x := x) ha
  have hq3 := lo_cp_q (hm 0) (hm 1) (hm 2) (lo_lw_in a ha h0)
  have hqx : lo_cq (lo_mm q f s a v x) (lo_comp q f s a v) = true := by
    rcases (by omega : x = 0 ∨ x = 1 ∨ x = 2) with z | z | z
    · subst z; exact hq3.1
    · subst z; exact hq3.2.1
    · subst z; exact hq3.2.2
  rw [lo_df_tb a ha _ (lo_comp_lt ha) r2 hr2, Bool.and_eq_true] at b2
  have a1 := lo_comp_sub ha r1 hr1 b1
  have t1 := lo_mm_tb hv hr1 a1 (haq r1 hr1 a1) o1
  have t2 := lo_mm_tb hv hr2 b2.1 (haq r2 hr2 b2.1) o2
  unfold lo_cq at hqx
  rw [Bool.or_eq_true, beq_iff_eq, beq_iff_eq] at hqx
  rcases hqx with z | z
  · have := congrArg (fun n => Nat.testBit n r1) z
    simp only [Nat.testBit_and, t1, b1, Nat.zero_testBit] at this
    exact absurd this (by decide)
  · have := congrArg (fun n => Nat.testBit n r2) z
    simp only [Nat.testBit_and, t2] at this
    rw [Bool.true_and] at this
    rw [this] at b2
    exact absurd b2.2 (by decide)
theorem lo_comp_tn {a v : Nat} (ha : a < 16) : ∀ r, r < 4 → (a.testBit r).toNat = ((lo_comp q f s a v).testBit r).toNat + ((lo_df a (lo_comp q f s a v)).testBit r).toNat := by
  intro r hr
  rw [lo_df_tb a ha _ (lo_comp_lt ha) r hr]
  have := lo_comp_sub (q := q) (f := f) (s := s) (v := v) ha r hr
  revert this
  cases a.testBit r <;> cases (lo_comp q f s a v).testBit r <;> simp
theorem lo_pc_add {a b c : Nat} (h : ∀ r, r < 4 → (a.testBit r).toNat = (b.testBit r).toNat + (c.testBit r).toNat) : lo_pc a = lo_pc b + lo_pc c := lo_c_add h
theorem lo_pc_pos {a : Nat} (ha : a < 16) (h : a ≠ 0) : 0 < lo_pc a := by
  rcases Nat.eq_zero_or_pos (lo_pc a) with z | z
  · exact absurd (lo_pc_0 a ha z) h
  · exact z
theorem lo_df_ne {a v : Nat} (ha : a < 16) (h : lo_comp q f s a v ≠ a) : lo_df a (lo_comp q f s a v) ≠ 0 := by
  intro e
  apply h
  refine lo_tb_ext _ (lo_comp_lt ha) _ ha (fun r hr => ?_)
  have := lo_comp_tn (q := q) (f := f) (s := s) (v := v) ha r hr
  rw [e, Nat.zero_testBit] at this
  revert this
  cases a.testBit r <;> cases (lo_comp q f s a v).testBit r <;> simp
theorem lo_vl_big {v y : Nat} (hv : v < 64) (hy : 3 ≤ y) : lo_vl v y = 0 := by
  unfold lo_vl
  have h : (2 : Nat) ^ 6 ≤ 2 ^ (2 * y) := Nat.pow_le_pow_right (by decide) (by omega)
  rw [Nat.div_eq_of_lt (by omega)]
theorem lo_vset_fn {v x t : Nat} (hv : v < 64) (hx : x < 3) (ht : t < 3) : lo_vl (lo_vset v x t) = lo_vu (lo_vl v) x t := by
  funext y
  rcases Nat.lt_or_ge y 3 with z | z
  · exact lo_vset_vl v hv x hx t ht y z
  · rw [lo_vl_big (lo_vset_lt v hv x hx t ht) z, lo_vu_n (by omega), lo_vl_big hv z]
theorem lo_cv_all {a x : Nat} (h : lo_aw q f s x &&& a = a) : ∀ r, r < 4 → a.testBit r = true → f r = x ∨ s r = x := by
  intro r hr ha
  have e := congrArg (fun n => Nat.testBit n r) h
  simp only [Nat.testBit_and, ha, Bool.and_true] at e
  unfold lo_aw at e
  rw [lo_mk_tb] at e
  unfold lo_ap at e
  simp only [Bool.and_eq_true, decide_eq_true_eq] at e
  exact e.2.2
/-- the rows that are not decided -/
def lo_Lo (L : Nat → Bool) (w : Nat → Nat) : Nat → Bool := fun i => L i && decide (0 < w i ∧ w i < 10)
def lo_O (L : Nat → Bool) (w f s : Nat → Nat) (a v : Nat) : Nat := lo_C (lo_Lo L w) f s (Nat.testBit a) (lo_vl v)
theorem lo_O_le {a v : Nat} : lo_O L w f s a v ≤ lo_c L 36 := Nat.le_trans lo_C_le (lo_c_le (fun i _ h => by
  unfold lo_Lo at h
  rw [Bool.and_eq_true] at h
  exact h.1))
theorem lo_2 (a b : Nat) : 2 ^ a + 2 ^ b ≤ 2 ^ (a + b) + 1 := by
  rw [Nat.pow_add]
  have ha := Nat.two_pow_pos a
  have hb := Nat.two_pow_pos b
  generalize 2 ^ a = x at *
  generalize 2 ^ b = y at *
  obtain ⟨x', rfl⟩ : ∃ x', x = x' + 1 := ⟨x - 1, by omega⟩
  obtain ⟨y', rfl⟩ : ∃ y', y = y' + 1 := ⟨y - 1, by omega⟩
  rw [Nat.add_mul, Nat.mul_add]
  omega
theorem lo_last {C : Nat → Bool} : ∀ n, lo_c C n ≠ 0 → ∃ o, o < n ∧ C o = true ∧ ∀ j, o < j → j < n → C j = false
  | 0, h => absurd rfl h
  | n + 1, h => by
    cases hc : C n
    · have h' : lo_c C n ≠ 0 := by
        intro z
        apply h
        show lo_c C n + (C n).toNat = 0
        rw [z, hc]; rfl
      obtain ⟨o, h1, h2, h3⟩ := lo_last n h'
      refine ⟨o, by omega, h2, fun j p1 p2 => ?_⟩
      rcases Nat.lt_or_ge j n with z | z
      · exact h3 j p1 z
      · have e : j = n := by omega
        rw [e, hc]
    · exact ⟨n, by omega, hc, fun j p1 p2 => absurd p1 (by omega)⟩
theorem lo_V_W {wk : Nat → Int32} (h : lo_V L w wk) : lo_W L w := fun i hi hL => ((h i hi).1 hL).2
theorem lo_V_u {wk : Nat → Int32} (h : lo_V L w wk) {o z : Nat} (hL : L o = true) (hz : z ≤ 10) : lo_V L (lo_wu w o z) (upd wk o (nI z)) := by
  intro i hi
  by_cases e : i = o
  · subst e
    rw [pk_us, lo_wu_s]
    exact ⟨fun _ => ⟨rfl, hz⟩, fun y => by rw [hL] at y; exact absurd y (by decide)⟩
  · rw [pk_un e, lo_wu_n e]
    exact h i hi
end
end
section
/-! a frame's run -/
section
variable {ro am : Int32} {li fv sv : Nat → Int32}
variable {q : Nat → Bool} {f s : Nat → Nat} {L : Nat → Bool}
theorem lo_F_of (hq : lo_Q fv sv q f s) {a : Nat} (haq : ∀ r, r < 4 → a.testBit r = true → q r = true) : lo_F f s (Nat.testBit a) := fun r hr h => by
  obtain ⟨_, _, hf, hs⟩ := (hq r hr).1 (haq r hr h)
  exact ⟨hf, hs⟩
theorem lo_10 {e : Nat} (h : e ≤ 10) : 10 ^ e ≤ 10000000000 := by
  have := Nat.pow_le_pow_right (show 0 < 10 by decide) h
  exact this
theorem lm_decide (hq : lo_Q fv sv q f s) (hL10 : lo_c L 36 ≤ 10) {a v : Nat} (ha : a < 16) (haq : ∀ r, r < 4 → a.testBit r = true → q r = true) (hv : v < 64) (hD : lm_D q f s a v) : ∀ (N : Nat) (w : Nat → Nat) (wk : Nat → Int32) (d : Nat) (sh : Int64) (ex : Int32) (F : lm_FR), lo_O L w f s a v = N → lo_V L w wk → d + N + 1 < 48 → lm_fresh F d a v → ∃ c G x e, c + 3 ≤ 4 * 2 ^ N ∧ lm_RT ro am li fv sv c (d + 1, sh, ex, wk, F) (d, lN x, nI e, wk, G) ∧ lm_Ag d F G ∧ lo_G L w f s (Nat.testBit a) (lo_vl v) x e := by
  have hC : lo_C L f s (Nat.testBit a) (lo_vl v) ≤ 10 := Nat.le_trans lo_C_le hL10
  have hF' := lo_F_of hq haq
  intro N
  induction N with
  | zero =>
    intro w wk d sh ex F hO hV hd hF
    have hcl : ∀ i, i < 36 → lo_cl L w f s a v i := by
      intro i hi hL hR
      have z := lo_c_0' hO i hi
      have z2 : ((L i && decide (0 < w i ∧ w i < 10)) && lo_R f s (Nat.testBit a) (lo_vl v) i) = false := z
      rw [hL, hR, Bool.true_and, Bool.and_true] at z2
      have z3 := of_decide_eq_false z2
      have := lo_V_W hV i hi hL
      omega
    rcases Classical.em (lo_H f s (Nat.testBit a) (lo_vl v) (fun i => L i && decide (w i = 10))) with z | z
    · obtain ⟨G, h1, h2⟩ := lm_begin4 (ro := ro) (am := am) (li := li) (sh := sh) (ex := ex) hq hV (by omega) ha haq hv hD hC hcl (Or.inl ⟨z, rfl⟩) hF
      exact ⟨1, G, _, _, by decide, h1, h2, lo_G_leaf (lo_V_W hV) hF' hcl (fun _ => rfl) (fun y => absurd z y)⟩
    · obtain ⟨G, h1, h2⟩ := lm_begin4 (ro := ro) (am := am) (li := li) (sh := sh) (ex := ex) hq hV (by omega) ha haq hv hD hC hcl (Or.inr ⟨z, rfl⟩) hF
      exact ⟨1, G, _, _, by decide, h1, h2, lo_G_leaf (lo_V_W hV) hF' hcl (fun y => absurd y z) (fun _ => rfl)⟩
  | succ N ih =>
    intro w wk d sh ex F hO hV hd hF
    obtain ⟨o, ho, hCo, hlast⟩ := lo_last (C := fun i => lo_Lo L w i && lo_R f s (Nat.testBit a) (lo_vl v) i) 36 (by
      intro z
      have : lo_O L w f s a v = 0 := z
      omega)
    have hCo2 : ((L o && decide (0 < w o ∧ w o < 10)) && lo_R f s (Nat.testBit a) (lo_vl v) o) = true := hCo
    rw [Bool.and_eq_true, Bool.and_eq_true, decide_eq_true_eq] at hCo2
    obtain ⟨⟨hL, hw0, hw1⟩, hR⟩ := hCo2
    have hl2 : ∀ j, o < j → j < 36 → lo_cl L w f s a v j := by
      intro j p1 p2 hL hR
      have z2 : ((L j && decide (0 < w j ∧ w j < 10)) && lo_R f s (Nat.testBit a) (lo_vl v) j) = false := hlast j p1 p2
      rw [hL, hR, Bool.true_and, Bool.and_true] at z2
      have z3 := of_decide_eq_false z2
      have := lo_V_W hV j p2 hL
      omega
    have hN : ∀ z, z = 0 ∨ z = 10 → lo_O L (lo_wu w o z) f s a v = N := by
      intro z hz
      have k : lo_O L w f s a v = lo_O L (lo_wu w o z) f s a v + 1 := by
        refine lo_c_ins (j := o) ?_ hCo ho (fun i hi ne => ?_)
        · show ((L o && decide (0 < lo_wu w o z o ∧ lo_wu w o z o < 10)) && _) = false
          rw [lo_wu_s, decide_eq_false (by omega), Bool.and_false, Bool.false_and]
        · show ((L i && decide (0 < lo_wu w o z i ∧ lo_wu w o z i < 10)) && _) = ((L i && decide (0 < w i ∧ w i < 10)) && _)
          rw [lo_wu_n ne]
      omega
    obtain ⟨F1, r1, g1, p1, f1⟩ := lm_begin5 (ro := ro) (am := am) (li := li) (sh := sh) (ex := ex) hq hV (by omega) ha haq hv hD hC ho hL hR hw0 hw1 hl2 hF
    obtain ⟨c1, F2, x1, e1, b1, r2, g2, G1⟩ := ih (lo_wu w o 10) (upd wk o 10) (d + 1) sh ex F1 (hN 10 (Or.inr rfl)) (lo_V_u hV hL (by omega)) (by omega) f1
    have p2 := lm_pres_ag g2 (by omega) p1
    obtain ⟨F3, r3, g3, p3, f3⟩ := lm_dec1 (ro := ro) (am := am) (li := li) (fv := fv) (sv := sv) (wk := upd wk o 10) (x := x1) (y := e1) (d := d) (by omega) ho (show w o ≤ 10 by omega) p2
    have ew : upd (upd wk o 10) o 0 = upd wk o 0 := by
      funext j
      unfold upd
      by_cases e : j = o
      · rw [if_pos e, if_pos e]
      · rw [if_neg e, if_neg e, if_neg e]
    rw [ew] at r3
    obtain ⟨c0, F4, x0, e0, b0, r4, g4, G0⟩ := ih (lo_wu w o 0) (upd wk o 0) (d + 1) (lN x1) (nI e1) F3 (hN 0 (Or.inl rfl)) (lo_V_u hV hL (by omega)) (by omega) f3
    have p4 := lm_abs_ag g4 (by omega) p3
    have l1 := lo_G_le (lo_V_W (lo_V_u hV hL (show 10 ≤ 10 by omega))) G1
    have l0 := lo_G_le (lo_V_W (lo_V_u hV hL (show 0 ≤ 10 by omega))) G0
    have t1 := lo_10 (e := e1) (by rw [G1.1]; exact hC)
    have t0 := lo_10 (e := e0) (by rw [G0.1]; exact hC)
    have m1 : x1 * w o ≤ 10000000000 * 10 := Nat.mul_le_mul (by omega) (by omega)
    have m0 : x0 * (10 - w o) ≤ 10000000000 * 10 := Nat.mul_le_mul (by omega) (by omega)
    have r5 := lm_dec2 (ro := ro) (am := am) (li := li) (fv := fv) (sv := sv) (wk := upd wk o 0) (x := x0) (y := e0) (d := d) (by omega) ho (show w o ≤ 10 by omega) (by omega) p4
    have ew2 : upd (upd wk o 0) o (nI (w o)) = wk := by
      funext j
      unfold upd
      by_cases e : j = o
      · rw [if_pos e, e, ((hV o ho).1 hL).1]
      · rw [if_neg e, if_neg e]
    rw [ew2] at r5
    refine ⟨1 + c1 + 1 + c0 + 1, F4, _, _, ?_, lm_tr (lm_tr (lm_tr (lm_tr r1 r2) r3) r4) r5, ?_, lo_G_dec (lo_V_W hV) hF' ho hL G1 G0⟩
    · rw [Nat.pow_succ]; omega
    · exact lm_Ag_tr (Nat.le_refl d) (lm_Ag_tr (Nat.le_refl d) g1 (lm_Ag_tr (Nat.le_refl d) (fun j hj => g2 j (by omega)) g3)) (fun j hj => g4 j (by omega))
end
end
section
/-! every frame's run, and the evaluation -/
section
variable {ro am : Int32} {li fv sv : Nat → Int32}
variable {q : Nat → Bool} {f s : Nat → Nat} {L : Nat → Bool} {w : Nat → Nat} {wk : Nat → Int32}
/-- what the run of a frame gives -/
def lm_Run (ro am : Int32) (li fv sv : Nat → Int32) (L : Nat → Bool) (w f s : Nat → Nat) (wk : Nat → Int32) (a v d : Nat) : Prop := ∀ (sh : Int64) (ex : Int32) (F : lm_FR), lm_fresh F d a v → ∃ c G x e, c + 7 ≤ 4 * 3 ^ lo_nf v * lo_pc a + 4 * 2 ^ lo_O L w f s a v ∧ lm_RT ro am li fv sv c (d + 1, sh, ex, wk, F) (d, lN x, nI e, wk, G) ∧ lm_Ag d F G ∧ lo_G L w f s (Nat.testBit a) (lo_vl v) x e
theorem lo_tb_or {a b : Nat} (ha : a < 16) (hb : b < 16) (hd : ∀ r, r < 4 → (a.testBit r).toNat + (b.testBit r).toNat ≤ 1) : a ||| b < 16 ∧ ∀ r, r < 4 → ((a ||| b).testBit r).toNat = (a.testBit r).toNat + (b.testBit r).toNat := by
  refine ⟨Nat.or_lt_two_pow (n := 4) ha hb, fun r hr => ?_⟩
  have := hd r hr
  rw [Nat.testBit_or]
  revert this
  cases a.testBit r <;> cases b.testBit r <;> simp
theorem lo_occ_sub {a b x : Nat} (h : ∀ r, r < 4 → a.testBit r = true → b.testBit r = true) (o : lo_occ f s (Nat.testBit a) x) : lo_occ f s (Nat.testBit b) x := by
  obtain ⟨r, hr, h1, h2⟩ := o
  exact ⟨r, hr, h r hr h1, h2⟩
theorem lo_tn_l {a b c : Bool} (h : a.toNat = b.toNat + c.toNat) (hb : b = true) : a = true := by
  revert h; subst hb
  cases a <;> cases c <;> simp
theorem lo_tn_r {a b c : Bool} (h : a.toNat = b.toNat + c.toNat) (hc : c = true) : a = true := by
  revert h; subst hc
  cases a <;> cases b <;> simp
theorem lo_tn_1 (a : Bool) : a.toNat ≤ 1 := by cases a <;> decide
theorem lm_loop (hq : lo_Q fv sv q f s) (hW : lo_W L w) {a v d : Nat} (ha : a < 16) (haq : ∀ r, r < 4 → a.testBit r = true → q r = true) (hv : v < 64) (hd : d + 1 < 48) (m : Nat) (IH : ∀ p, p < 16 → p ≠ 0 → (∀ r, r < 4 → p.testBit r = true → q r = true) → lo_pc p ≤ m → lm_Run ro am li fv sv L w f s wk p v (d + 1)) : ∀ (k rs dn g ge x e : Nat) (F : lm_FR), lo_pc rs ≤ k → lo_pc rs ≤ m → rs < 16 → dn < 16 → (∀ r, r < 4 → (a.testBit r).toNat = (dn.testBit r).toNat + (rs.testBit r).toNat) → lo_no f s v dn rs → lm_prod F d v rs g ge → lo_G L w f s (Nat.testBit dn) (lo_vl v) (g * x) (ge + e) → ∃ c G X E, (rs = 0 → c = 1) ∧ (rs ≠ 0 → c + 5 ≤ 4 * 3 ^ lo_nf v * lo_pc rs + 4 * 2 ^ lo_O L w f s rs v) ∧ lm_RT ro am li fv sv c (d + 1, lN x, nI e, wk, F) (d, lN X, nI E, wk, G) ∧ lm_Ag d F G ∧ lo_G L w f s (Nat.testBit a) (lo_vl v) X E := by
  intro k
  induction k with
  | zero =>
    intro rs dn g ge x e F hk hm hr hdn htn hno hF hG
    have z : rs = 0 := lo_pc_0 rs hr (by omega)
    subst z
    obtain ⟨G, h1, h2⟩ := lm_prodE (ro := ro) (am := am) (li := li) (fv := fv) (sv := sv) (wk := wk) (x := x) (y := e) (by omega) hF
    have e1 : a = dn := lo_tb_ext a ha dn hdn (fun r hr => by
      have := htn r hr
      rw [Nat.zero_testBit] at this
      revert this
      cases a.testBit r <;> cases dn.testBit r <;> simp)
    refine ⟨1, G, _, _, fun _ => rfl, fun z => absurd rfl z, h1, h2, ?_⟩
    rw [e1]; exact hG
  | succ k ih =>
    intro rs dn g ge x e F hk hm hr hdn htn hno hF hG
    by_cases z : rs = 0
    · subst z
      obtain ⟨G, h1, h2⟩ := lm_prodE (ro := ro) (am := am) (li := li) (fv := fv) (sv := sv) (wk := wk) (x := x) (y := e) (by omega) hF
      have e1 : a = dn := lo_tb_ext a ha dn hdn (fun r hr => by
        have := htn r hr
        rw [Nat.zero_testBit] at this
        revert this
        cases a.testBit r <;> cases dn.testBit r <;> simp)
      refine ⟨1, G, _, _, fun _ => rfl, fun z => absurd rfl z, h1, h2, ?_⟩
      rw [e1]; exact hG
    · have rq : ∀ r, r < 4 → rs.testBit r = true → q r = true := fun r hr h => haq r hr (lo_tn_r (htn r hr) h)
      have hpl : lo_comp q f s rs v < 16 := lo_comp_lt hr
      have hp0 : lo_comp q f s rs v ≠ 0 := lo_comp_ne hr z
      have hps := lo_comp_sub (q := q) (f := f) (s := s) (v := v) hr
      have htn2 := lo_comp_tn (q := q) (f := f) (s := s) (v := v) hr
      have hno2 := lo_comp_no (q := q) (f := f) (s := s) (v := v) hr z rq
      have hdl := lo_df_lt rs hr _ hpl
      have hpc := lo_pc_add htn2
      have hpp := lo_pc_pos hpl hp0
      obtain ⟨F1, r1, g1, p1, f1⟩ := lm_prodN (ro := ro) (am := am) (li := li) (wk := wk) (x := x) (y := e) hq hd hr z hv hpl hF
      obtain ⟨c1, F2, x', e', b1, r2, g2, G1⟩ := IH _ hpl hp0 (fun r hr' h => rq r hr' (hps r hr' h)) (by omega) (lN x) (nI e) F1 f1
      have p2 := lm_prod_ag g2 (by omega) p1
      generalize lo_comp q f s rs v = p at *
      generalize lo_df rs p = rs' at *
      have hsum : ∀ r, r < 4 → (dn.testBit r).toNat + (p.testBit r).toNat ≤ 1 := by
        intro r hr'
        have h1 := htn r hr'
        have h2 := htn2 r hr'
        have h3 := lo_tn_1 (a.testBit r)
        omega
      obtain ⟨hol, hot⟩ := lo_tb_or hdn hpl hsum
      have hdq : ∀ r, r < 4 → (dn ||| p).testBit r = true → q r = true := by
        intro r hr' h
        have h1 := htn r hr'
        have h2 := htn2 r hr'
        have h3 := hot r hr'
        rw [h] at h3
        refine haq r hr' ?_
        cases y : a.testBit r
        · rw [y] at h1
          simp only [Bool.toNat_false, Bool.toNat_true] at h1 h3
          omega
        · rfl
      have G2 : lo_G L w f s (Nat.testBit (dn ||| p)) (lo_vl v) (g * x * x') (ge + e + e') := lo_G_prod hW (lo_F_of hq hdq) hot (fun y hy hy3 o1 o2 => hno y hy hy3 o1 (lo_occ_sub hps o2)) hG G1
      obtain ⟨c2, F3, X, E, b2, b3, r3, g3, G3⟩ := ih rs' (dn ||| p) (g * x) (ge + e) x' e' F2 (by omega) (by omega) hdl hol (fun r hr' => by
        have h1 := htn r hr'
        have h2 := htn2 r hr'
        have h3 := hot r hr'
        omega) (fun y hy hy3 o1 o2 => by
        obtain ⟨r, hr', h1, h2⟩ := o1
        rw [Nat.testBit_or, Bool.or_eq_true] at h1
        rcases h1 with h1 | h1
        · exact hno y hy hy3 ⟨r, hr', h1, h2⟩ (lo_occ_sub (fun r hr' h => lo_tn_r (htn2 r hr') h) o2)
        · exact hno2 y hy hy3 ⟨r, hr', h1, h2⟩ o2) p2 G2
      have hO : lo_O L w f s rs v = lo_O L w f s p v + lo_O L w f s rs' v := lo_C_prod htn2
      have hA := lo_2 (lo_O L w f s p v) (lo_O L w f s rs' v)
      rw [← hO] at hA
      refine ⟨1 + c1 + c2, F3, X, E, fun y => absurd y z, fun _ => ?_, lm_tr (lm_tr r1 r2) r3, ?_, G3⟩
      · rw [hpc, Nat.mul_add]
        by_cases y : rs' = 0
        · have c2e := b2 y
          have : 2 ^ lo_O L w f s p v ≤ 2 ^ lo_O L w f s rs v := Nat.pow_le_pow_right (by decide) (by omega)
          omega
        · have := b3 y
          omega
      · exact lm_Ag_tr (Nat.le_refl d) g1 (lm_Ag_tr (Nat.le_refl d) (fun j hj => g2 j (by omega)) g3)
theorem lm_main (hq : lo_Q fv sv q f s) (hV : lo_V L w wk) (hL10 : lo_c L 36 ≤ 10) : ∀ (M a v d : Nat), lo_nf v + lo_pc a ≤ M → a < 16 → a ≠ 0 → (∀ r, r < 4 → a.testBit r = true → q r = true) → v < 64 → d + M + 12 < 48 → lm_Run ro am li fv sv L w f s wk a v d := by
  have hW := lo_V_W hV
  intro M
  induction M with
  | zero =>
    intro a v d hM ha h0
    exact absurd (lo_pc_0 a ha (by omega)) h0
  | succ M ih =>
    intro a v d hM ha h0 haq hv hd sh ex F hF
    have hF' := lo_F_of hq haq
    have hpp := lo_pc_pos ha h0
    have h3 : 0 < 3 ^ lo_nf v := Nat.pow_pos (by decide)
    have hap : 4 ≤ 4 * 3 ^ lo_nf v * lo_pc a := by
      have := Nat.mul_le_mul (Nat.mul_le_mul (Nat.le_refl 4) h3) hpp
      simpa using this
    have h2p := Nat.two_pow_pos (lo_O L w f s a v)
    by_cases hc : lo_comp q f s a v = a
    · by_cases hg : ∀ y, y < 3 → lo_mm q f s a v y = 0
      · -- a single atom
        have hlw : lo_lw a = a := by rw [← lo_comp_g hg]; exact hc
        obtain ⟨k, hk, rfl⟩ := lo_lw_tb a ha h0 hlw
        have hS : ∀ r, r < 4 → ((2 ^ k).testBit r = true ↔ r = k) := lo_tb_2 k hk
        have hQ := haq k hk ((hS k hk).mpr rfl)
        obtain ⟨hf, hs⟩ := hF' k hk ((hS k hk).mpr rfl)
        have nn : ∀ x, x < 3 → (f k = x ∨ s k = x) → lo_vl v x ≠ 3 := by
          intro x hx ho hv3
          have t := lo_mm_tb (q := q) hv3 hk ((hS k hk).mpr rfl) hQ ho
          rw [hg x hx, Nat.zero_testBit] at t
          exact absurd t (by decide)
        obtain ⟨hlt, hT, hN⟩ := lo_G_ground (L := L) (w := w) (ν := lo_vl v) hW (fun x _ => lo_vl_le v x) hF' hk hS (nn _ hf (Or.inl rfl)) (nn _ hs (Or.inr rfl))
        cases hLr : L (lo_row f s v k)
        · obtain ⟨G, h1, h2⟩ := lm_begin2 (ro := ro) (am := am) (li := li) (sh := sh) (ex := ex) hq hV (by omega) hk hQ hv hc hg hlt (Or.inr ⟨hLr, rfl, rfl⟩) hF
          exact ⟨1, G, _, _, by omega, h1, h2, hN hLr⟩
        · obtain ⟨G, h1, h2⟩ := lm_begin2 (ro := ro) (am := am) (li := li) (sh := sh) (ex := ex) hq hV (by omega) hk hQ hv hc hg hlt (Or.inl ⟨hLr, rfl, rfl⟩) hF
          exact ⟨1, G, _, _, by omega, h1, h2, hT hLr⟩
      · have hg' : ∃ y, y < 3 ∧ lo_mm q f s a v y ≠ 0 := by
          apply Classical.byContradiction
          intro z
          exact hg (fun y hy => Classical.byContradiction (fun k => z ⟨y, hy, k⟩))
        by_cases hx : ∃ x, x < 3 ∧ (lo_vl v x = 3 ∧ lo_aw q f s x &&& a = a)
        · -- a common variable
          have hx' : ∃ x, x < 3 ∧ (lo_vl v x = 3 ∧ lo_aw q f s x &&& a = a) ∧ ∀ y, y < x → ¬ (lo_vl v y = 3 ∧ lo_aw q f s y &&& a = a) := by
            obtain ⟨x, hx3, hxp⟩ := hx
            by_cases p0 : lo_vl v 0 = 3 ∧ lo_aw q f s 0 &&& a = a
            · exact ⟨0, by omega, p0, lt_0⟩
            · by_cases p1 : lo_vl v 1 = 3 ∧ lo_aw q f s 1 &&& a = a
              · exact ⟨1, by omega, p1, lt_s lt_0 p0⟩
              · refine ⟨2, by omega, ?_, lt_s (lt_s lt_0 p0) p1⟩
                rcases (by omega : x = 0 ∨ x = 1 ∨ x = 2) with e | e | e
                · subst e; exact absurd hxp p0
                · subst e; exact absurd hxp p1
                · subst e; exact hxp
          obtain ⟨x, hx3, hx1, hx2⟩ := hx'
          have hall := lo_cv_all hx1.2
          have nf := fun t (ht : t < 3) => lo_nf_vset v hv x hx3 t ht hx1.1
          have run := fun t (ht : t < 3) => ih a (lo_vset v x t) (d + 1) (by have := nf t ht; omega) ha h0 haq (lo_vset_lt v hv x hx3 t ht) (by omega)
          have hC : lo_C L f s (Nat.testBit a) (lo_vl v) ≤ 10 := Nat.le_trans lo_C_le hL10
          have hCp := lo_C_proj (L := L) hx1.1 hall
          have hOp := lo_C_proj (L := lo_Lo L w) hx1.1 hall
          obtain ⟨F1, r1, g1, p1, f1⟩ := lm_begin3 (ro := ro) (am := am) (li := li) (wk := wk) (sh := sh) (ex := ex) hq (by omega) ha hv h0 hc hg' hx3 hx1 hx2 hF
          obtain ⟨c0, F2, x0, e0, b0, r2, g2, G0⟩ := run 0 (by omega) sh ex F1 f1
          have p2 := lm_proj_ag g2 (by omega) p1
          have l0 := lo_G_le hW G0
          have E0 := G0.1
          obtain ⟨F3, r3, g3, p3, f3⟩ := lm_projN (ro := ro) (am := am) (li := li) (fv := fv) (sv := sv) (wk := wk) (by omega) hv hx3 (by omega) (by rw [E0]; exact Nat.le_trans lo_C_le hL10) l0 p2
          obtain ⟨c1, F4, x1, e1, b1, r4, g4, G1⟩ := run 1 (by omega) (lN x0) (nI e0) F3 f3
          have p4 := lm_proj_ag g4 (by omega) p3
          have l1 := lo_G_le hW G1
          have E1 := G1.1
          obtain ⟨F5, r5, g5, p5, f5⟩ := lm_projN (ro := ro) (am := am) (li := li) (fv := fv) (sv := sv) (wk := wk) (by omega) hv hx3 (by omega) (by rw [E1]; exact Nat.le_trans lo_C_le hL10) l1 p4
          obtain ⟨c2, F6, x2, e2, b2, r6, g6, G2⟩ := run 2 (by omega) (lN x1) (nI e1) F5 f5
          have p6 := lm_proj_ag g6 (by omega) p5
          have l2 := lo_G_le hW G2
          have E2 := G2.1
          rw [lo_vset_fn hv hx3 (by omega)] at G0 G1 G2 E0 E1 E2
          obtain ⟨hb, GG⟩ := lo_G_proj hW hF' hx3 hx1.1 hall G0 G1 G2
          rw [Nat.one_mul, Nat.zero_add e0] at p6
          have hsum : e0 + e1 + e2 ≤ 10 := by omega
          obtain ⟨F7, r7, g7⟩ := lm_projE (ro := ro) (am := am) (li := li) (fv := fv) (sv := sv) (wk := wk) (d := d) (by omega) (show e2 ≤ 10 by omega) l2 hsum hb p6
          refine ⟨1 + c0 + 1 + c1 + 1 + c2 + 1, F7, _, _, ?_, lm_tr (lm_tr (lm_tr (lm_tr (lm_tr (lm_tr r1 r2) r3) r4) r5) r6) r7, ?_, GG⟩
          · have hOp' : lo_O L w f s a v = lo_O L w f s a (lo_vset v x 0) + lo_O L w f s a (lo_vset v x 1) + lo_O L w f s a (lo_vset v x 2) := by
              unfold lo_O
              rw [lo_vset_fn hv hx3 (show 0 < 3 by omega), lo_vset_fn hv hx3 (show 1 < 3 by omega), lo_vset_fn hv hx3 (show 2 < 3 by omega)]
              exact hOp
            have n0 := nf 0 (by omega)
            have n1 := nf 1 (by omega)
            have n2 := nf 2 (by omega)
            have q1 := lo_2 (lo_O L w f s a (lo_vset v x 0)) (lo_O L w f s a (lo_vset v x 1))
            have q2 := lo_2 (lo_O L w f s a (lo_vset v x 0) + lo_O L w f s a (lo_vset v x 1)) (lo_O L w f s a (lo_vset v x 2))
            rw [← hOp'] at q2
            rw [show lo_nf (lo_vset v x 1) = lo_nf (lo_vset v x 0) by omega] at b1
            rw [show lo_nf (lo_vset v x 2) = lo_nf (lo_vset v x 0) by omega] at b2
            have e3 : 4 * 3 ^ lo_nf v * lo_pc a = 3 * (4 * 3 ^ lo_nf (lo_vset v x 0) * lo_pc a) := by
              rw [← n0, Nat.pow_succ]
              ac_rfl
            rw [e3]
            generalize 4 * 3 ^ lo_nf (lo_vset v x 0) * lo_pc a = A at *
            omega
          · have s2 : lm_Ag d F1 F2 := fun j hj => g2 j (by omega)
            have s4 : lm_Ag d F3 F4 := fun j hj => g4 j (by omega)
            have s6 : lm_Ag d F5 F6 := fun j hj => g6 j (by omega)
            have le := Nat.le_refl d
            exact lm_Ag_tr le (lm_Ag_tr le (lm_Ag_tr le (lm_Ag_tr le (lm_Ag_tr le (lm_Ag_tr le g1 s2) g3) s4) g5) s6) g7
        · -- deciding
          have hD : lm_D q f s a v := ⟨h0, hc, hg', fun x hx3 k => hx ⟨x, hx3, k⟩⟩
          have hO := lo_O_le (L := L) (w := w) (f := f) (s := s) (a := a) (v := v)
          obtain ⟨c, G, x, e, b, r, g, GG⟩ := lm_decide (ro := ro) (am := am) (li := li) hq hL10 ha haq hv hD _ w wk d sh ex F rfl hV (by omega) hF
          exact ⟨c, G, x, e, by omega, r, g, GG⟩
    · -- a product
      have hpl : lo_comp q f s a v < 16 := lo_comp_lt ha
      have hp0 : lo_comp q f s a v ≠ 0 := lo_comp_ne ha h0
      have hps := lo_comp_sub (q := q) (f := f) (s := s) (v := v) ha
      have htn := lo_comp_tn (q := q) (f := f) (s := s) (v := v) ha
      have hno := lo_comp_no (q := q) (f := f) (s := s) (v := v) ha h0 haq
      have hdl := lo_df_lt a ha _ hpl
      have hd0 := lo_df_ne (q := q) (f := f) (s := s) (v := v) ha hc
      have hpc := lo_pc_add htn
      have hpp1 := lo_pc_pos hpl hp0
      have hpp2 := lo_pc_pos hdl hd0
      obtain ⟨F1, r1, g1, p1, f1⟩ := lm_begin1 (ro := ro) (am := am) (li := li) (wk := wk) (sh := sh) (ex := ex) hq (by omega) ha hv h0 hc hpl hF
      have IH : ∀ p, p < 16 → p ≠ 0 → (∀ r, r < 4 → p.testBit r = true → q r = true) → lo_pc p ≤ lo_pc a - 1 → lm_Run ro am li fv sv L w f s wk p v (d + 1) := fun p h1 h2 h3 h4 => ih p v (d + 1) (by omega) h1 h2 h3 hv (by omega)
      obtain ⟨c1, F2, x1, e1, b1, r2, g2, G1⟩ := IH _ hpl hp0 (fun r hr h => haq r hr (hps r hr h)) (by omega) sh ex F1 f1
      have p2 := lm_prod_ag g2 (by omega) p1
      obtain ⟨c2, F3, X, E, b2, b3, r3, g3, G3⟩ := lm_loop hq hW ha haq hv (by omega) (lo_pc a - 1) IH 4 _ _ 1 0 x1 e1 F2 (lo_pc_le _) (by omega) hdl hpl htn hno p2 (by rw [Nat.one_mul, Nat.zero_add]; exact G1)
      have hO : lo_O L w f s a v = lo_O L w f s (lo_comp q f s a v) v + lo_O L w f s (lo_df a (lo_comp q f s a v)) v := lo_C_prod htn
      have hA := lo_2 (lo_O L w f s (lo_comp q f s a v) v) (lo_O L w f s (lo_df a (lo_comp q f s a v)) v)
      rw [← hO] at hA
      refine ⟨1 + c1 + c2, F3, X, E, ?_, lm_tr (lm_tr r1 r2) r3, ?_, G3⟩
      · have := b3 hd0
        rw [hpc, Nat.mul_add]
        omega
      · exact lm_Ag_tr (Nat.le_refl d) g1 (lm_Ag_tr (Nat.le_refl d) (fun j hj => g2 j (by omega)) g3)
end
end
section
/-! the evaluation's answer -/
def lo_Ht (q : Nat → Bool) (f s : Nat → Nat) : (Nat → Bool) → Prop := lo_H f s q (fun _ => 3)
def lo_Tot (L : Nat → Bool) (w : Nat → Nat) (P : (Nat → Bool) → Prop) (T : Nat) : Prop := T * 10 ^ 36 = lo_E (lo_wz L w) P 36 (fun _ => false) * 10 ^ lo_c L 36
theorem lo_vl63 : ∀ x, x < 3 → lo_vl 63 x = 3 := by decide +kernel
theorem lo_nf63 : lo_nf 63 = 3 := by decide +kernel
theorem lo_Ht_eq {q : Nat → Bool} {f s : Nat → Nat} (ρ : Nat → Bool) : lo_H f s (Nat.testBit (lo_mk q 4)) (lo_vl 63) ρ ↔ lo_Ht q f s ρ := by
  have k : ∀ r, r < 4 → (lo_mk q 4).testBit r = q r := fun r hr => by rw [lo_mk_tb, decide_eq_true hr, Bool.true_and]
  constructor
  · rintro ⟨σ, h1, h2⟩
    exact ⟨σ, fun x hx => ⟨(h1 x hx).1, Or.inl rfl⟩, fun r hr h => h2 r hr (by rw [k r hr]; exact h)⟩
  · rintro ⟨σ, h1, h2⟩
    exact ⟨σ, fun x hx => ⟨(h1 x hx).1, Or.inl (lo_vl63 x hx)⟩, fun r hr h => h2 r hr (by rw [← k r hr]; exact h)⟩
theorem lo_ring8 {K a X A B : Nat} (h : a * K = X * A) : a * B * K = X * (A * B) := by
  rw [Nat.mul_right_comm, h, Nat.mul_assoc]
section
variable {ro am de ex : Int32} {sh : Int64} {li wk fv sv ki so va re vr tu dr sw ge : Nat → Int32} {ga : Nat → Int64}
variable {q : Nat → Bool} {f s : Nat → Nat} {L : Nat → Bool} {w : Nat → Nat}
theorem lx_eval (hq : lo_Q fv sv q f s) (hV : lo_V L w wk) (hL10 : lo_c L 36 ≤ 10) (hro : ro = nI (lo_c L 36)) {post : Int64 → SX → Prop} (h : ∀ (T : Nat) (de' : Int32) (sh' : Int64) (ex' : Int32) (G : lm_FR), lo_Tot L w (lo_Ht q f s) T → post (lN T) (ro, am, de', sh', ex', li, wk, fv, sv, G)) : wpX_evaluateAll post (ro, am, de, sh, ex, li, wk, fv, sv, ki, so, va, re, vr, tu, dr, sw, ga, ge) := by
  have hal : lo_mk q 4 < 16 := lo_mk_lt q 4
  have haq : ∀ r, r < 4 → (lo_mk q 4).testBit r = true → q r = true := fun r hr z => by
    rw [lo_mk_tb, decide_eq_true hr, Bool.true_and] at z
    exact z
  have fin : ∀ (k x e : Nat) (G : lm_FR), lo_G L w f s (Nat.testBit (lo_mk q 4)) (lo_vl 63) x e → lm_ev ro am li fv sv post 1 k (0, lN x, nI e, wk, G) := by
    intro k x e G hG
    obtain ⟨ki2, so2, va2, re2, vr2, tu2, dr2, sw2, ga2, ge2⟩ := G
    have he : e ≤ lo_c L 36 := by rw [hG.1]; exact lo_C_le
    have H : wX_evaluateAll_128 post ro am (nI 0) (lN x) (nI e) li wk fv sv ki2 so2 va2 re2 vr2 tu2 dr2 sw2 ga2 ge2 := by
      unfold wX_evaluateAll_128
      rw [hro, pk_sub he]
      refine lx_pow (by omega) ?_
      rw [lN_mul, ← hro]
      refine h _ _ _ _ (ki2, so2, va2, re2, vr2, tu2, dr2, sw2, ga2, ge2) ?_
      unfold lo_Tot
      have e1 : lo_E (lo_wz L w) (lo_Ht q f s) 36 (fun _ => false) = lo_X L w f s (Nat.testBit (lo_mk q 4)) (lo_vl 63) := (lo_E_eq lo_Ht_eq 36 _).symm
      have e2 : (10 : Nat) ^ lo_c L 36 = 10 ^ e * 10 ^ (lo_c L 36 - e) := by rw [← Nat.pow_add, Nat.add_sub_cancel' he]
      rw [e1, e2]
      exact lo_ring8 hG.2
    exact br_c (fun _ => H) (fun _ => br_t (by decide) H)
  have fr : lm_fresh (upd ki 0 0, upd so 0 (nI (lo_mk q 4)), upd va 0 (nI 63), re, vr, tu, dr, sw, ga, ge) 0 (lo_mk q 4) 63 := ⟨pk_us (f := ki) (k := 0) (x := 0), pk_us (f := so) (k := 0) (x := nI (lo_mk q 4)), pk_us (f := va) (k := 0) (x := nI 63)⟩
  have run : ∃ n, lm_ev ro am li fv sv post n 0 (1, sh, ex, wk, upd ki 0 0, upd so 0 (nI (lo_mk q 4)), upd va 0 (nI 63), re, vr, tu, dr, sw, ga, ge) := by
    by_cases z : lo_mk q 4 = 0
    · rw [z] at fr ⊢
      obtain ⟨G, r, _⟩ := lm_begin0 (ro := ro) (am := am) (li := li) (fv := fv) (sv := sv) (wk := wk) (sh := sh) (ex := ex) (by decide) fr
      refine ⟨1 + 1, r post 1 0 (by decide) (fin _ _ _ _ ?_)⟩
      refine lo_G_empty (lo_V_W hV) (fun x _ => lo_vl_le 63 x) (fun r hr => ?_)
      rw [z, Nat.zero_testBit]
    · have hO := lo_O_le (L := L) (w := w) (f := f) (s := s) (a := lo_mk q 4) (v := 63)
      have hp := lo_pc_le (lo_mk q 4)
      have hn := lo_nf63
      obtain ⟨c, G, x, e, b, r, _, hG⟩ := lm_main (ro := ro) (am := am) (li := li) hq hV hL10 7 (lo_mk q 4) 63 0 (by omega) hal z haq (by decide) (by decide) sh ex _ fr
      have b2 : 2 ^ lo_O L w f s (lo_mk q 4) 63 ≤ 2 ^ 10 := Nat.pow_le_pow_right (by decide) (by omega)
      have b3 : 4 * 3 ^ lo_nf 63 * lo_pc (lo_mk q 4) ≤ 4 * 3 ^ 3 * 4 := by rw [hn]; exact Nat.mul_le_mul_left _ hp
      exact ⟨1 + c, r post 1 0 (by omega) (fin _ _ _ _ hG)⟩
  have key : ∀ k r, r + k = 4 → wX_evaluateAll_4 post ro am de sh ex li wk fv sv ki so va re vr tu dr sw ga ge (k + 1) (nI (lo_mk q r)) (nI r) := by
    intro k
    induction k with
    | zero =>
      intro r hr
      have e : r = 4 := by omega
      subst e
      refine br_t (by decide) (lx_enter (d := 0) (by decide) ?_)
      exact run
    | succ k ih =>
      intro r hr
      have hr4 : r < 4 := by omega
      have next := ih (r + 1) (by omega)
      refine br_f (nI_ge (b := 4) hr4 (by decide)) ⟨vp_in_nI hr4 (by decide), ?_⟩
      rw [nI_clamp (show r < 2 ^ 31 by omega)]
      cases hQ : q r
      · rw [((hq r hr4).2 hQ).1]
        rw [lo_mk_f hQ] at next
        exact br_t (by decide) (nm_r (nI_1 r) next)
      · obtain ⟨e1, _, hf, _⟩ := (hq r hr4).1 hQ
        rw [e1]
        rw [lo_mk_t hQ] at next
        exact br_f (nI_pos (by omega)) (nm_r (lb_set (by omega)) (nm_r (nI_1 r) next))
  exact ⟨5, key 4 0 rfl⟩
theorem lx_take {post : SX → Prop} (h : ∀ wk' : Nat → Int32, (∀ i, i < 36 → wk' i = li i) → post (ro, am, de, sh, ex, li, wk', fv, sv, ki, so, va, re, vr, tu, dr, sw, ga, ge)) : wpX_takeListed post (ro, am, de, sh, ex, li, wk, fv, sv, ki, so, va, re, vr, tu, dr, sw, ga, ge) := by
  have key : ∀ k i (wk' : Nat → Int32), i + k = 36 → (∀ j, j < i → wk' j = li j) → wX_takeListed_2 post ro am de sh ex (k + 1) (nI i) li (wk') fv sv ki so va re vr tu dr sw ga ge := by
    intro k
    induction k with
    | zero =>
      intro i wk' hi hb
      have e : i = 36 := by omega
      subst e
      exact br_t (by decide) (h wk' hb)
    | succ k ih =>
      intro i wk' hi hb
      have hi36 : i < 36 := by omega
      have hii : vp_in (nI i) 36 := vp_in_nI hi36 (by decide)
      refine br_f (nI_ge (b := 36) hi36 (by decide)) ?_
      rw [nI_clamp (show i < 2 ^ 31 by omega)]
      refine ⟨hii, hii, nm_e (nm_r (nI_1 i) (ih (i + 1) _ (by omega) (lt_s (fun j hj => ?_) pk_us)))⟩
      rw [pk_un (by omega)]
      exact hb j hj
  exact ⟨37, key 36 0 wk rfl lt_0⟩
end
end
section
/-! the reference's methods -/
def lo_YL (L : Nat → Bool) (w : Nat → Nat) (yl yo : Nat → Int32) : Prop := ∀ i, i < 36 → (L i = true → yl i = 1 ∧ yo i = nI (w i) ∧ w i ≤ 10) ∧ (L i = false → yl i = 0)
def lo_YQ (q : Nat → Bool) (f s : Nat → Nat) (ya yf ys : Nat → Int32) : Prop := ∀ r, r < 4 → (q r = true → ya r = 1 ∧ yf r = nI (f r) ∧ ys r = nI (s r) ∧ f r < 3 ∧ s r < 3) ∧ (q r = false → ya r = 0)
/-- the array holds the world -/
def lo_YT (ρ : Nat → Bool) (yt : Nat → Int32) : Prop := ∀ i, i < 36 → (ρ i = true → yt i = 1) ∧ (ρ i = false → yt i = 0)
theorem lb_sl : ∀ n, n < 32 → ((nI n &&& 31).toBitVec.smod 32).toNat = n := by decide +kernel
theorem lb_wbit {m k : Nat} (hm : m < 2 ^ 31) (hk : k < 32) : ((nI m >>> (nI k &&& 31)) &&& 1 = 1) ↔ m.testBit k = true := by
  rw [pk_shrN hm _ k (lb_sl k hk), pk_andN (n := m / 2 ^ k) (Nat.lt_of_le_of_lt (Nat.div_le_self _ _) (by omega)) (m := 1) 1 (by decide)]
  show nI _ = nI 1 ↔ _
  rw [nI_eq (by omega) (by omega), Nat.testBit_eq_decide_div_mod_eq, decide_eq_true_eq]
def lo_yv (c x : Nat) : Nat := if x = 0 then c / 9 else if x = 1 then c / 3 % 3 else c % 3
theorem lb_y9 : ∀ c, c < 27 → nI c / 9 = nI (c / 9) := by decide +kernel
theorem lb_y3 : ∀ c, c < 27 → (nI c / 3) - (nI c / 3) / 3 * 3 = nI (c / 3 % 3) := by decide +kernel
theorem lb_y1 : ∀ c, c < 27 → nI c - nI c / 3 * 3 = nI (c % 3) := by decide +kernel
theorem lo_yv_lt : ∀ c, c < 27 → ∀ x, x < 3 → lo_yv c x < 3 := by decide +kernel
theorem lo_yv_in : ∀ a, a < 3 → ∀ b, b < 3 → ∀ c, c < 3 → lo_yv (9 * a + 3 * b + c) 0 = a ∧ lo_yv (9 * a + 3 * b + c) 1 = b ∧ lo_yv (9 * a + 3 * b + c) 2 = c := by decide +kernel
theorem lo_yv_of {σ : Nat → Nat} (h : ∀ x, x < 3 → σ x < 3) : ∃ c, c < 27 ∧ ∀ x, x < 3 → lo_yv c x = σ x := by
  have h0 := h 0 (by omega)
  have h1 := h 1 (by omega)
  have h2 := h 2 (by omega)
  obtain ⟨a, b, c⟩ := lo_yv_in _ h0 _ h1 _ h2
  refine ⟨9 * σ 0 + 3 * σ 1 + σ 2, by omega, fun x hx => ?_⟩
  rcases (by omega : x = 0 ∨ x = 1 ∨ x = 2) with z | z | z
  · subst z; exact a
  · subst z; exact b
  · subst z; exact c
theorem ly_value {c x : Nat} (hc : c < 27) (hx : x < 3) {post : Int32 → Prop} (h : post (nI (lo_yv c x))) : wpY_value post (nI c) (nI x) := by
  unfold wpY_value
  rw [lb_y9 c hc, lb_y3 c hc, lb_y1 c hc]
  unfold lo_yv at h
  refine pk_eq x 0 (fun z => ⟨by decide, ?_⟩) (fun z => pk_eq x 1 (fun y => ⟨by decide, by decide, ?_⟩) (fun y => ⟨by decide, ?_⟩))
  · rw [if_pos z] at h; exact h
  · rw [if_neg z, if_pos y] at h; exact h
  · rw [if_neg z, if_neg y] at h; exact h
/-- the three numbers name a row, for both sides; or they don't -/
theorem lo_num (p0 p1 p2 : Int32) : (∃ r a b : Nat, r < 4 ∧ a < 3 ∧ b < 3 ∧ p0 = nI r ∧ p1 = nI a ∧ p2 = nI b ∧ (∀ post : Int32 → Prop, post 1 → wpX_isRow post p0 p1 p2) ∧ ∀ post : Int32 → Prop, post (nI (9 * r + 3 * a + b)) → wpY_number post p0 p1 p2) ∨ ((∀ post : Int32 → Prop, post 0 → wpX_isRow post p0 p1 p2) ∧ ∀ post : Int32 → Prop, post (-1) → wpY_number post p0 p1 p2) := by
  have hle : ∀ {x y : Int32}, ¬ y < x → x ≤ y := fun h => Int32.not_lt.mp h
  by_cases a1 : p0 < 0
  · exact Or.inr ⟨fun _ h => br_t a1 h, fun _ h => br_t a1 h⟩
  · by_cases a2 : 3 < p0
    · exact Or.inr ⟨fun _ h => br_f a1 (br_t a2 h), fun _ h => br_f a1 (br_t a2 h)⟩
    · by_cases b1 : p1 < 0
      · exact Or.inr ⟨fun _ h => br_f a1 (br_f a2 (br_t b1 h)), fun _ h => br_f a1 (br_f a2 (br_t b1 h))⟩
      · by_cases b2 : 2 < p1
        · exact Or.inr ⟨fun _ h => br_f a1 (br_f a2 (br_f b1 (br_t b2 h))), fun _ h => br_f a1 (br_f a2 (br_f b1 (br_t b2 h)))⟩
        · by_cases c1 : p2 < 0
          · exact Or.inr ⟨fun _ h => br_f a1 (br_f a2 (br_f b1 (br_f b2 (br_t c1 h)))), fun _ h => br_f a1 (br_f a2 (br_f b1 (br_f b2 (br_t c1 h))))⟩
          · by_cases c2 : 2 < p2
            · exact Or.inr ⟨fun _ h => br_f a1 (br_f a2 (br_f b1 (br_f b2 (br_f c1 (br_t c2 h))))), fun _ h => br_f a1 (br_f a2 (br_f b1 (br_f b2 (br_f c1 (br_f (Int32.not_le.mpr c2) h)))))⟩
            · obtain ⟨r, hr, e0⟩ := nI_of2 (M := 3) (n := 3) (by decide) a1 (hle a2)
              obtain ⟨a, ha, e1⟩ := nI_of2 (M := 2) (n := 2) (by decide) b1 (hle b2)
              obtain ⟨b, hb, e2⟩ := nI_of2 (M := 2) (n := 2) (by decide) c1 (hle c2)
              refine Or.inl ⟨r, a, b, by omega, by omega, by omega, e0, e1, e2, fun _ h => br_f a1 (br_f a2 (br_f b1 (br_f b2 (br_f c1 (br_f c2 h))))), fun _ h => br_f a1 (br_f a2 (br_f b1 (br_f b2 (br_f c1 (br_t (hle c2) ?_)))))⟩
              rw [e0, e1, e2, lb_row]
              exact h
section
variable {yl yo yt ya yf ys : Nat → Int32}
variable {q : Nat → Bool} {f s : Nat → Nat} {L : Nat → Bool} {w : Nat → Nat}
theorem ly_rows (hL : lo_YL L w yl yo) {post : Int32 → Prop} (h : post (nI (lo_c L 36))) : wpY_rows post (yl, yo, yt, ya, yf, ys) := by
  have key : ∀ k i, i + k = 36 → wY_rows_4 post yl yo yt ya yf ys (k + 1) (nI (lo_c L i)) (nI i) := by
    intro k
    induction k with
    | zero =>
      intro i hi
      have e : i = 36 := by omega
      subst e
      exact br_t (by decide) h
    | succ k ih =>
      intro i hi
      have hi36 : i < 36 := by omega
      have next := ih (i + 1) (by omega)
      refine br_f (nI_ge (b := 36) hi36 (by decide)) ⟨vp_in_nI hi36 (by decide), ?_⟩
      rw [nI_clamp (show i < 2 ^ 31 by omega)]
      cases hi' : L i
      · rw [(hL i hi36).2 hi']
        have e : lo_c L (i + 1) = lo_c L i := by show lo_c L i + (L i).toNat = _; rw [hi']; rfl
        rw [e] at next
        exact br_t rfl (nm_r (nI_1 i) next)
      · rw [((hL i hi36).1 hi').1]
        have e : lo_c L (i + 1) = lo_c L i + 1 := by show lo_c L i + (L i).toNat = _; rw [hi']; rfl
        rw [e] at next
        exact br_f (by decide) (nm_r (nI_1 _) (nm_r (nI_1 i) next))
  exact ⟨37, key 36 0 rfl⟩
theorem ly_lay (hL : lo_YL L w yl yo) (h10 : lo_c L 36 ≤ 10) {m : Nat} (hm : m < 2 ^ 31) {post : SY → Prop} (h : ∀ yt', lo_YT (lo_lay L m) yt' → post (yl, yo, yt', ya, yf, ys)) : wpY_lay post (yl, yo, yt, ya, yf, ys) (nI m) := by
  have key : ∀ k i (yt' : Nat → Int32), i + k = 36 → (∀ j, j < i → (lo_lay L m j = true → yt' j = 1) ∧ (lo_lay L m j = false → yt' j = 0)) → wY_lay_4 post (nI m) (k + 1) (nI (lo_c L i)) (nI i) yl yo (yt') ya yf ys := by
    intro k
    induction k with
    | zero =>
      intro i yt' hi hb
      have e : i = 36 := by omega
      subst e
      exact br_t (by decide) (h yt' hb)
    | succ k ih =>
      intro i yt' hi hb
      have hi36 : i < 36 := by omega
      have hii : vp_in (nI i) 36 := vp_in_nI hi36 (by decide)
      have c : (nI i).toNatClampNeg = i := nI_clamp (by omega)
      have hc : lo_c L i ≤ 10 := Nat.le_trans (lo_c_mono L (by omega)) h10
      have next : ∀ z : Int32, ((lo_lay L m i = true → z = 1) ∧ (lo_lay L m i = false → z = 0)) → wY_lay_4 post (nI m) (k + 1) (nI (lo_c L (i + 1))) (nI (i + 1)) yl yo (upd yt' i z) ya yf ys := by
        intro z hz
        refine ih (i + 1) _ (by omega) (lt_s (fun j hj => ?_) ?_)
        · rw [pk_un (by omega)]; exact hb j hj
        · rw [pk_us]; exact hz
      refine br_f (nI_ge (b := 36) hi36 (by decide)) ⟨hii, ?_⟩
      cases hi' : L i
      · have e : lo_c L (i + 1) = lo_c L i := by show lo_c L i + (L i).toNat = _; rw [hi']; rfl
        rw [e] at next
        have n0 := next 0 ⟨fun z => by unfold lo_lay at z; rw [hi'] at z; exact absurd z (by simp), fun _ => rfl⟩
        have y0 := (hL i hi36).2 hi'
        unfold wY_lay_37 wY_lay_38
        rw [c, y0]
        exact br_t rfl ⟨hii, nm_r (congrArg (upd yt' i) rfl) ⟨hii, br_t rfl (nm_r (nI_1 i) n0)⟩⟩
      · have e : lo_c L (i + 1) = lo_c L i + 1 := by show lo_c L i + (L i).toNat = _; rw [hi']; rfl
        rw [e] at next
        have y1 := ((hL i hi36).1 hi').1
        have hb := lb_wbit (m := m) (k := lo_c L i) hm (by omega)
        have el : lo_lay L m i = m.testBit (lo_c L i) := by unfold lo_lay; rw [hi', Bool.true_and]
        unfold wY_lay_37 wY_lay_38
        rw [c, y1]
        cases hB : m.testBit (lo_c L i)
        · have n0 := next 0 ⟨fun z => by rw [el, hB] at z; exact absurd z (by decide), fun _ => rfl⟩
          have nb : ¬ ((nI m >>> (nI (lo_c L i) &&& 31)) &&& 1 = 1) := fun z => by
            have := hb.mp z
            rw [hB] at this
            exact absurd this (by decide)
          exact br_f (by decide) (br_f nb ⟨hii, nm_r (congrArg (upd yt' i) rfl) ⟨hii, br_f (by decide) (nm_r (nI_1 _) (nm_r (nI_1 i) n0))⟩⟩)
        · have n1 := next 1 ⟨fun _ => rfl, fun z => by rw [el, hB] at z; exact absurd z (by decide)⟩
          exact br_f (by decide) (br_t (hb.mpr hB) ⟨hii, nm_r (congrArg (upd yt' i) rfl) ⟨hii, br_f (by decide) (nm_r (nI_1 _) (nm_r (nI_1 i) n1))⟩⟩)
  exact ⟨37, key 36 0 yt rfl lt_0⟩
theorem ly_holds (hQ : lo_YQ q f s ya yf ys) {ρ : Nat → Bool} (hT : lo_YT ρ yt) {post : Int32 → Prop} (h1 : lo_Ht q f s ρ → post 1) (h0 : ¬ lo_Ht q f s ρ → post 0) : wpY_holds post (yl, yo, yt, ya, yf, ys) := by
  have inner : ∀ (J : Int32 → Prop) (c : Nat), c < 27 → ((∀ r, r < 4 → q r = true → ρ (9 * r + 3 * lo_yv c (f r) + lo_yv c (s r)) = true) → post 1) → (¬ (∀ r, r < 4 → q r = true → ρ (9 * r + 3 * lo_yv c (f r) + lo_yv c (s r)) = true) → J (nI c + 1)) → ∀ k r (x2 : Int32), r + k = 4 → ((x2 = 1 ∧ ∀ y, y < r → q y = true → ρ (9 * y + 3 * lo_yv c (f y) + lo_yv c (s y)) = true) ∨ (x2 = 0 ∧ ¬ ∀ r, r < 4 → q r = true → ρ (9 * r + 3 * lo_yv c (f r) + lo_yv c (s r)) = true)) → wY_holds_12 post J (nI c) yl yo yt ya yf ys (k + 1) x2 (nI r) := by
    intro J c hc g1 g0 k
    induction k with
    | zero =>
      intro r x2 hr hx
      have e : r = 4 := by omega
      subst e
      rcases hx with ⟨rfl, hx⟩ | ⟨rfl, hx⟩
      · exact br_t (by decide) (br_f (by decide) (g1 hx))
      · exact br_t (by decide) (br_t rfl (nm_e (g0 hx)))
    | succ k ih =>
      intro r x2 hr hx
      have hr4 : r < 4 := by omega
      have hri : vp_in (nI r) 4 := vp_in_nI hr4 (by decide)
      have next := fun x2 => ih (r + 1) x2 (by omega)
      refine br_f (nI_ge (b := 4) hr4 (by decide)) ⟨hri, ?_⟩
      rw [nI_clamp (show r < 2 ^ 31 by omega)]
      cases hq : q r
      · rw [(hQ r hr4).2 hq]
        refine br_t rfl (nm_r (nI_1 r) (next x2 ?_))
        rcases hx with ⟨e, hx⟩ | hx
        · exact Or.inl ⟨e, lt_s hx (fun z => by rw [hq] at z; exact absurd z (by decide))⟩
        · exact Or.inr hx
      · obtain ⟨e1, e2, e3, hf, hs⟩ := (hQ r hr4).1 hq
        have v1 := lo_yv_lt c hc _ hf
        have v2 := lo_yv_lt c hc _ hs
        have hlt : 9 * r + 3 * lo_yv c (f r) + lo_yv c (s r) < 36 := by omega
        rw [e1, e2, e3]
        refine br_f (by decide) ⟨hri, ly_value hc hf ⟨hri, ly_value hc hs ?_⟩⟩
        rw [lb_row, nI_clamp (show 9 * r + 3 * lo_yv c (f r) + lo_yv c (s r) < 2 ^ 31 by omega)]
        refine ⟨vp_in_nI hlt (by decide), ?_⟩
        cases hρ : ρ (9 * r + 3 * lo_yv c (f r) + lo_yv c (s r))
        · rw [(hT _ hlt).2 hρ]
          refine br_t rfl (nm_r (nI_1 r) (next 0 (Or.inr ⟨rfl, fun z => ?_⟩)))
          have := z r hr4 hq
          rw [hρ] at this
          exact absurd this (by decide)
        · rw [(hT _ hlt).1 hρ]
          refine br_f (by decide) (nm_r (nI_1 r) (next x2 ?_))
          rcases hx with ⟨e, hx⟩ | hx
          · exact Or.inl ⟨e, lt_s hx (fun _ => hρ)⟩
          · exact Or.inr hx
  have key : ∀ k c, c + k = 27 → (∀ y, y < c → ¬ ∀ r, r < 4 → q r = true → ρ (9 * r + 3 * lo_yv y (f r) + lo_yv y (s r)) = true) → wY_holds_2 post yl yo yt ya yf ys (k + 1) (nI c) := by
    intro k
    induction k with
    | zero =>
      intro c hc hb
      have e : c = 27 := by omega
      subst e
      refine br_t (by decide) (h0 ?_)
      rintro ⟨σ, g1, g2⟩
      obtain ⟨c, hc', hσ⟩ := lo_yv_of (fun x hx => (g1 x hx).1)
      refine hb c hc' (fun r hr hq => ?_)
      obtain ⟨_, _, _, hf, hs⟩ := (hQ r hr).1 hq
      rw [hσ _ hf, hσ _ hs]
      exact g2 r hr hq
    | succ k ih =>
      intro c hc hb
      have hc27 : c < 27 := by omega
      refine br_f (nI_ge (b := 27) hc27 (by decide)) ⟨5, inner _ c hc27 (fun z => h1 ?_) (fun z => ?_) 4 0 1 rfl (Or.inl ⟨rfl, lt_0⟩)⟩
      · exact ⟨lo_yv c, fun x hx => ⟨lo_yv_lt c hc27 x hx, Or.inl rfl⟩, fun r hr hq => z r hr hq⟩
      · rw [nI_1]
        exact ih (c + 1) (by omega) (lt_s hb z)
  exact ⟨28, key 27 0 rfl lt_0⟩
theorem ly_product (hL : lo_YL L w yl yo) {ρ : Nat → Bool} (hT : lo_YT ρ yt) {post : Int64 → Prop} (h : post (lN (lo_pr L w ρ 36))) : wpY_product post (yl, yo, yt, ya, yf, ys) := by
  have key : ∀ k i, i + k = 36 → wY_product_4 post yl yo yt ya yf ys (k + 1) (lN (lo_pr L w ρ i)) (nI i) := by
    intro k
    induction k with
    | zero =>
      intro i hi
      have e : i = 36 := by omega
      subst e
      exact br_t (by decide) h
    | succ k ih =>
      intro i hi
      have hi36 : i < 36 := by omega
      have hii : vp_in (nI i) 36 := vp_in_nI hi36 (by decide)
      have next := ih (i + 1) (by omega)
      refine br_f (nI_ge (b := 36) hi36 (by decide)) ⟨hii, ?_⟩
      rw [nI_clamp (show i < 2 ^ 31 by omega)]
      cases hi' : L i
      · rw [(hL i hi36).2 hi']
        have e : lo_pr L w ρ (i + 1) = lo_pr L w ρ i := by show lo_pr L w ρ i * _ = _; rw [hi']; simp
        rw [e] at next
        exact br_t rfl (nm_r (nI_1 i) next)
      · obtain ⟨e1, e2, hw⟩ := (hL i hi36).1 hi'
        rw [e1, e2]
        refine br_f (by decide) ⟨hii, ?_⟩
        cases hρ : ρ i
        · rw [(hT i hi36).2 hρ, show (10 : Int32) - nI (w i) = nI (10 - w i) from pk_sub (a := 10) hw, nI_l (show 10 - w i < 2 ^ 31 by omega), lN_mul]
          have e : lo_pr L w ρ (i + 1) = lo_pr L w ρ i * (10 - w i) := by show lo_pr L w ρ i * _ = _; rw [hi', hρ]; simp
          rw [e] at next
          exact br_t rfl ⟨hii, nm_e (nm_r (nI_1 i) next)⟩
        · rw [(hT i hi36).1 hρ, nI_l (show w i < 2 ^ 31 by omega), lN_mul]
          have e : lo_pr L w ρ (i + 1) = lo_pr L w ρ i * w i := by show lo_pr L w ρ i * _ = _; rw [hi', hρ]; simp
          rw [e] at next
          exact br_f (by decide) ⟨hii, nm_e (nm_r (nI_1 i) next)⟩
  exact ⟨37, key 36 0 rfl⟩
theorem lb_pw : ∀ n, n ≤ 10 → (1 : Int32) <<< (nI n &&& 31) = nI (2 ^ n) := fun n hn => lb_1s n (by omega)
theorem lo_1024 {n : Nat} (h : n ≤ 10) : 2 ^ n ≤ 1024 := Nat.pow_le_pow_right (show 0 < 2 by decide) h
/-- the sum over the worlds, with a row there as said, or with no such row (x1 below 0) -/
theorem ly_sum (hL : lo_YL L w yl yo) (hQ : lo_YQ q f s ya yf ys) (h10 : lo_c L 36 ≤ 10) {x1 x2 : Int32} {P : (Nat → Bool) → Prop} (hP : (x1 < 0 ∧ ∀ ρ, P ρ ↔ lo_Ht q f s ρ) ∨ (∃ j b, j < 36 ∧ x1 = nI j ∧ x2 = (if b = true then 1 else 0) ∧ ∀ ρ, P ρ ↔ (ρ j = b ∧ lo_Ht q f s ρ))) {post : Int64 → SY → Prop} (h : ∀ yt', post (lN (lo_S (fun m => lo_b (P (lo_lay L m)) * lo_pr L w (lo_lay L m) 36) (2 ^ lo_c L 36))) (yl, yo, yt', ya, yf, ys)) : wpY_sum post (yl, yo, yt, ya, yf, ys) x1 x2 := by
  have h2 := lo_1024 h10
  have key : ∀ k m (yt' : Nat → Int32), m + k = 2 ^ lo_c L 36 → wY_sum_13 post x1 x2 (nI (2 ^ lo_c L 36)) (k + 1) (lN (lo_S (fun m => lo_b (P (lo_lay L m)) * lo_pr L w (lo_lay L m) 36) m)) (nI m) yl yo (yt') ya yf ys := by
    intro k
    induction k with
    | zero =>
      intro m yt' hm
      have e : m = 2 ^ lo_c L 36 := by omega
      rw [← e]
      rw [← e] at h
      exact br_t (nI_le (Nat.le_refl _) (by omega)) (h yt')
    | succ k ih =>
      intro m yt' hm
      have next := fun yt' => ih (m + 1) yt' (by omega)
      refine br_f (nI_ge (by omega) (by omega)) (ly_lay hL h10 (by omega) (fun yt2 hT => ?_))
      have skip : ¬ P (lo_lay L m) → lo_S (fun m => lo_b (P (lo_lay L m)) * lo_pr L w (lo_lay L m) 36) (m + 1) = lo_S (fun m => lo_b (P (lo_lay L m)) * lo_pr L w (lo_lay L m) 36) m := by
        intro z
        show _ + lo_b (P (lo_lay L m)) * lo_pr L w (lo_lay L m) 36 = _
        rw [lo_bf z, Nat.zero_mul, Nat.add_zero]
      have add : P (lo_lay L m) → lo_S (fun m => lo_b (P (lo_lay L m)) * lo_pr L w (lo_lay L m) 36) (m + 1) = lo_S (fun m => lo_b (P (lo_lay L m)) * lo_pr L w (lo_lay L m) 36) m + lo_pr L w (lo_lay L m) 36 := by
        intro z
        show _ + lo_b (P (lo_lay L m)) * lo_pr L w (lo_lay L m) 36 = _
        rw [lo_bt z, Nat.one_mul]
      have go : (lo_Ht q f s (lo_lay L m) ↔ P (lo_lay L m)) → wY_sum_40 post (wY_sum_13 post x1 x2 (nI (2 ^ lo_c L 36)) (k + 1)) x1 x2 (lN (lo_S (fun m => lo_b (P (lo_lay L m)) * lo_pr L w (lo_lay L m) 36) m)) (nI (2 ^ lo_c L 36)) (nI m) yl yo (yt2) ya yf ys := by
        intro hiff
        unfold wY_sum_40
        refine ly_holds hQ hT (fun z => br_f (by decide) (ly_product hL hT ?_)) (fun z => br_t rfl (nm_r (nI_1 m) ?_))
        · refine nm_r (lN_add _ _) (nm_r (nI_1 m) ?_)
          rw [← add (hiff.mp z)]
          exact next yt2
        · rw [← skip (fun y => z (hiff.mpr y))]
          exact next yt2
      rcases hP with ⟨hx, hP⟩ | ⟨j, b, hj, rfl, rfl, hP⟩
      · exact br_t hx (go (hP _).symm)
      · have hji : vp_in (nI j) 36 := vp_in_nI hj (by decide)
        refine br_f (nI_pos (by omega)) ⟨hji, ?_⟩
        rw [nI_clamp (show j < 2 ^ 31 by omega)]
        by_cases hb : lo_lay L m j = b
        · refine br_t ?_ (go ⟨fun z => (hP _).mpr ⟨hb, z⟩, fun z => ((hP _).mp z).2⟩)
          cases hc : lo_lay L m j
          · rw [← hb, hc, (hT j hj).2 hc]; rfl
          · rw [← hb, hc, (hT j hj).1 hc]; rfl
        · refine br_f ?_ (nm_r (nI_1 m) ?_)
          · cases hc : lo_lay L m j
            · rw [(hT j hj).2 hc]
              cases b
              · exact absurd hc hb
              · decide
            · rw [(hT j hj).1 hc]
              cases b
              · decide
              · exact absurd hc hb
          · rw [← skip (fun z => hb ((hP _).mp z).1)]
            exact next yt2
  unfold wpY_sum
  dsimp only
  exact ly_rows hL (nm_r (lb_pw _ h10) ⟨2 ^ lo_c L 36 + 1, key _ 0 yt (by omega)⟩)
theorem ly_worlds (hL : lo_YL L w yl yo) (hQ : lo_YQ q f s ya yf ys) (h10 : lo_c L 36 ≤ 10) {post : Int32 → SY → Prop} (h : ∀ yt', post (nI (lo_S (fun m => lo_b (lo_Ht q f s (lo_lay L m))) (2 ^ lo_c L 36))) (yl, yo, yt', ya, yf, ys)) : wpY_worlds post (yl, yo, yt, ya, yf, ys) := by
  have h2 := lo_1024 h10
  have key : ∀ k m (yt' : Nat → Int32), m + k = 2 ^ lo_c L 36 → wY_worlds_11 post (nI (2 ^ lo_c L 36)) (k + 1) (nI (lo_S (fun m => lo_b (lo_Ht q f s (lo_lay L m))) m)) (nI m) yl yo (yt') ya yf ys := by
    intro k
    induction k with
    | zero =>
      intro m yt' hm
      have e : m = 2 ^ lo_c L 36 := by omega
      rw [← e]
      rw [← e] at h
      exact br_t (nI_le (Nat.le_refl _) (by omega)) (h yt')
    | succ k ih =>
      intro m yt' hm
      have next := fun yt' => ih (m + 1) yt' (by omega)
      have e : lo_S (fun m => lo_b (lo_Ht q f s (lo_lay L m))) (m + 1) = lo_S (fun m => lo_b (lo_Ht q f s (lo_lay L m))) m + lo_b (lo_Ht q f s (lo_lay L m)) := rfl
      rw [e] at next
      refine br_f (nI_ge (by omega) (by omega)) (ly_lay hL h10 (by omega) (fun yt2 hT => ?_))
      refine ly_holds hQ hT (fun z => br_f (by decide) (nm_r (nI_1 _) (nm_r (nI_1 m) ?_))) (fun z => br_t rfl (nm_r (nI_1 m) ?_))
      · rw [lo_bt z] at next; exact next yt2
      · rw [lo_bf z] at next; exact next yt2
  unfold wpY_worlds
  dsimp only
  exact ly_rows hL (nm_r (lb_pw _ h10) ⟨2 ^ lo_c L 36 + 1, key _ 0 yt (by omega)⟩)
end
end
section
/-! the two totals are one -/
def lo_Loc (P : (Nat → Bool) → Prop) : Prop := ∀ ρ ρ', (∀ i, i < 36 → ρ i = ρ' i) → (P ρ ↔ P ρ')
theorem lo_Ht_loc {q : Nat → Bool} {f s : Nat → Nat} (hF : lo_F f s q) : lo_Loc (lo_Ht q f s) := fun ρ ρ' h => ⟨lo_H_eq hF (fun i hi _ => h i hi), lo_H_eq hF (fun i hi _ => (h i hi).symm)⟩
theorem lo_Loc_and {P : (Nat → Bool) → Prop} {j : Nat} {b : Bool} (hj : j < 36) (h : lo_Loc P) : lo_Loc (fun ρ => ρ j = b ∧ P ρ) := fun ρ ρ' e => by
  show ρ j = b ∧ P ρ ↔ ρ' j = b ∧ P ρ'
  rw [e j hj]
  exact and_congr_right (fun _ => h ρ ρ' e)
/-- the sum over the worlds by their numbers -/
noncomputable def lo_Y (L : Nat → Bool) (w : Nat → Nat) (P : (Nat → Bool) → Prop) : Nat := lo_S (fun m => lo_b (P (lo_lay L m)) * lo_pr L w (lo_lay L m) 36) (2 ^ lo_c L 36)
theorem lo_Tot_Y {L : Nat → Bool} {w : Nat → Nat} {P : (Nat → Bool) → Prop} (hP : lo_Loc P) : lo_Tot L w P (lo_Y L w P) := by
  unfold lo_Tot lo_Y
  rw [← lo_sumE]
  refine congrArg (fun z => z * 10 ^ 36) (lo_S_eq (fun m _ => ?_))
  rw [lo_bc (hP (lo_lay L m) (lo_gl 36 (lo_lay L m) (fun _ => false)) (fun i hi => by unfold lo_gl; rw [if_pos hi]))]
theorem lo_Tot_u {L : Nat → Bool} {w : Nat → Nat} {P : (Nat → Bool) → Prop} {T T' : Nat} (h : lo_Tot L w P T) (h' : lo_Tot L w P T') : T = T' := by
  unfold lo_Tot at h h'
  exact Nat.eq_of_mul_eq_mul_right lo_K0 (h.trans h'.symm)
theorem lo_Tot_le {L : Nat → Bool} {w : Nat → Nat} {P : (Nat → Bool) → Prop} {T : Nat} (hw : lo_W L w) (h : lo_Tot L w P T) : T ≤ 10 ^ lo_c L 36 := by
  unfold lo_Tot at h
  have k : lo_E (lo_wz L w) P 36 (fun _ => false) ≤ 10 ^ 36 := lo_E_le 36 _ (lo_wz_le hw)
  have h2 : T * 10 ^ 36 ≤ 10 ^ lo_c L 36 * 10 ^ 36 := by
    rw [h, Nat.mul_comm (10 ^ lo_c L 36)]
    exact Nat.mul_le_mul_right _ k
  exact Nat.le_of_mul_le_mul_right h2 lo_K0
theorem lo_wz_u {L : Nat → Bool} {w : Nat → Nat} {j z : Nat} (hL : L j = true) : lo_wz L (lo_wu w j z) = lo_wu (lo_wz L w) j z := by
  funext i
  unfold lo_wz
  by_cases e : i = j
  · subst e; rw [hL, lo_wu_s, lo_wu_s]; rfl
  · rw [lo_wu_n e, lo_wu_n e]
theorem lo_ring9 {K T1 T2 E1 E2 R R' t p : Nat} (hK : 0 < K) (h1 : T1 * K = E1 * R) (h2 : T2 * K = E2 * R) (hE : 10 * E2 = p * E1) (ht : t * K = E1 * R') (hR : R = R' * 10) : T1 / 10 * p = T2 := by
  have a : T1 = 10 * t := by
    apply Nat.eq_of_mul_eq_mul_right hK
    calc T1 * K = E1 * R := h1
      _ = 10 * (E1 * R') := by rw [hR]; ac_rfl
      _ = 10 * t * K := by rw [← ht]; ac_rfl
  have b : 10 * T2 = 10 * (t * p) := by
    apply Nat.eq_of_mul_eq_mul_right hK
    calc 10 * T2 * K = 10 * (T2 * K) := by ac_rfl
      _ = 10 * E2 * R := by rw [h2]; ac_rfl
      _ = p * (E1 * R) := by rw [hE]; ac_rfl
      _ = p * (T1 * K) := by rw [h1]
      _ = 10 * (t * p) * K := by rw [a]; ac_rfl
  rw [a, Nat.mul_div_cancel_left _ (by decide : 0 < 10)]
  omega
theorem lo_Tot_pin {L : Nat → Bool} {w : Nat → Nat} {P : (Nat → Bool) → Prop} {j T1 T2 z p : Nat} {b : Bool} (hw : lo_W L w) (hj : j < 36) (hL : L j = true) (hz : (z = 10 ∧ b = true ∧ p = w j) ∨ (z = 0 ∧ b = false ∧ p = 10 - w j)) (h1 : lo_Tot L (lo_wu w j z) P T1) (h2 : lo_Tot L w (fun ρ => ρ j = b ∧ P ρ) T2) : T1 / 10 * p = T2 := by
  have wj : lo_wz L w j = w j := by unfold lo_wz; rw [hL]; rfl
  have hE : 10 * lo_E (lo_wz L w) (fun ρ => ρ j = b ∧ P ρ) 36 (fun _ => false) = p * lo_E (lo_wz L (lo_wu w j z)) P 36 (fun _ => false) := by
    rw [lo_wz_u hL]
    rcases hz with ⟨rfl, rfl, rfl⟩ | ⟨rfl, rfl, rfl⟩
    · rw [lo_E_pin 36 _ hj, wj]
    · rw [lo_E_pin0 36 _ hj, wj]
  have hzz : z = 0 ∨ z = 10 := by rcases hz with z | z <;> omega
  have hw' : lo_W L (lo_wu w j z) := by
    intro i hi hi'
    by_cases e : i = j
    · subst e; rw [lo_wu_s]; omega
    · rw [lo_wu_n e]; exact hw i hi hi'
  obtain ⟨t, ht⟩ := lo_E_int (w := lo_wz L (lo_wu w j z)) (P := P) (C := fun i => L i && decide (i ≠ j)) 36 (fun _ => false) (lo_wz_le hw') (fun i hi => by
    cases hi' : L i
    · exact Or.inr (Or.inl (by unfold lo_wz; rw [hi']; rfl))
    · by_cases e : i = j
      · have : lo_wz L (lo_wu w j z) i = z := by unfold lo_wz; rw [hi', e, lo_wu_s]; rfl
        rw [this]
        rcases hzz with y | y
        · exact Or.inr (Or.inl y)
        · exact Or.inr (Or.inr (Or.inl y))
      · left
        rw [decide_eq_true e]; rfl)
  have hc : lo_c L 36 = lo_c (fun i => L i && decide (i ≠ j)) 36 + 1 := lo_c_ins (j := j) (by simp) hL hj (fun i hi ne => by simp [ne])
  refine lo_ring9 lo_K0 h1 h2 hE ht ?_
  rw [hc, Nat.pow_succ]
theorem lo_S_0 {g : Nat → Nat} : ∀ {n : Nat}, (∀ i, i < n → g i = 0) → lo_S g n = 0
  | 0, _ => rfl
  | n + 1, h => by
    show lo_S g n + g n = 0
    rw [lo_S_0 (n := n) (fun i hi => h i (by omega)), h n (by omega)]
theorem lo_lay_f {L : Nat → Bool} {m j : Nat} (h : L j = false) : lo_lay L m j = false := by unfold lo_lay; rw [h]; rfl
theorem lo_Y_t0 {L : Nat → Bool} {w : Nat → Nat} {P : (Nat → Bool) → Prop} {j : Nat} (h : L j = false) : lo_Y L w (fun ρ => ρ j = true ∧ P ρ) = 0 := lo_S_0 (fun m _ => by
  rw [lo_bf (fun z => by have := z.1; rw [lo_lay_f h] at this; exact absurd this (by decide)), Nat.zero_mul])
theorem lo_Y_f0 {L : Nat → Bool} {w : Nat → Nat} {P : (Nat → Bool) → Prop} {j : Nat} (h : L j = false) : lo_Y L w (fun ρ => ρ j = false ∧ P ρ) = lo_Y L w P := lo_S_eq (fun m _ => by
  rw [lo_bc (show (lo_lay L m j = false ∧ P (lo_lay L m)) ↔ P (lo_lay L m) from ⟨fun z => z.2, fun z => ⟨lo_lay_f h, z⟩⟩)])
theorem lo_pr_5 {L : Nat → Bool} {ρ : Nat → Bool} : ∀ n, lo_pr L (fun _ => 5) ρ n = 5 ^ lo_c L n
  | 0 => rfl
  | n + 1 => by
    show lo_pr L (fun _ => 5) ρ n * _ = 5 ^ (lo_c L n + (L n).toNat)
    rw [lo_pr_5 n]
    cases L n
    · simp
    · rw [Nat.pow_add]
      cases ρ n <;> rfl
theorem lo_Y_5 {L : Nat → Bool} {P : (Nat → Bool) → Prop} : lo_Y L (fun _ => 5) P = lo_S (fun m => lo_b (P (lo_lay L m))) (2 ^ lo_c L 36) * 5 ^ lo_c L 36 := by
  unfold lo_Y
  rw [← lo_S_mul]
  exact lo_S_eq (fun m _ => by rw [lo_pr_5])
end
section
/-! the component: worlds, nested; the reference: nested -/
section
variable {ro am de ex : Int32} {sh : Int64} {li wk fv sv ki so va re vr tu dr sw ge : Nat → Int32} {ga : Nat → Int64}
variable {q : Nat → Bool} {f s : Nat → Nat} {L : Nat → Bool} {w : Nat → Nat}
theorem lx_worlds (hq : lo_Q fv sv q f s) (hV : lo_V L w li) (hL10 : lo_c L 36 ≤ 10) (hro : ro = nI (lo_c L 36)) {post : Int32 → SX → Prop} (h : ∀ (wk' : Nat → Int32) (de' : Int32) (sh' : Int64) (ex' : Int32) (G : lm_FR), post (nI (lo_S (fun m => lo_b (lo_Ht q f s (lo_lay L m))) (2 ^ lo_c L 36))) (ro, am, de', sh', ex', li, wk', fv, sv, G)) : wpX_worlds post (ro, am, de, sh, ex, li, wk, fv, sv, ki, so, va, re, vr, tu, dr, sw, ga, ge) := by
  have hF : lo_F f s q := fun r hr z => by
    obtain ⟨_, _, hf, hs⟩ := (hq r hr).1 z
    exact ⟨hf, hs⟩
  have key : ∀ k i (wk' : Nat → Int32), i + k = 36 → (∀ j, j < i → (L j = true → wk' j = nI 5 ∧ 5 ≤ 10) ∧ (L j = false → wk' j = -1)) → wX_worlds_4 post ro am de sh ex (k + 1) (lN (5 ^ lo_c L i)) (nI i) li (wk') fv sv ki so va re vr tu dr sw ga ge := by
    intro k
    induction k with
    | zero =>
      intro i wk' hi hb
      have e : i = 36 := by omega
      subst e
      refine br_t (by decide) ?_
      have hV5 : lo_V L (fun _ => 5) wk' := hb
      refine lx_eval hq hV5 hL10 hro (fun T de' sh' ex' G hT => ?_)
      obtain ⟨ki2, so2, va2, re2, vr2, tu2, dr2, sw2, ga2, ge2⟩ := G
      have e1 : T = lo_S (fun m => lo_b (lo_Ht q f s (lo_lay L m))) (2 ^ lo_c L 36) * 5 ^ lo_c L 36 := by
        rw [← lo_Y_5]
        exact lo_Tot_u hT (lo_Tot_Y (lo_Ht_loc hF))
      have p0 : 0 < 5 ^ lo_c L 36 := Nat.pow_pos (by decide)
      have p1 : 5 ^ lo_c L 36 ≤ 5 ^ 10 := Nat.pow_le_pow_right (by decide) hL10
      have tl := Nat.le_trans (lo_Tot_le (fun _ _ _ => by decide) hT) (lo_10 hL10)
      have n0 : ¬ lN (5 ^ lo_c L 36) = 0 := fun z => by
        have := (pk_lEQ (a := 5 ^ lo_c L 36) (b := 0) (by omega) (by omega)).mp z
        omega
      have ed : (lN T / lN (5 ^ lo_c L 36)).toInt32 = nI (lo_S (fun m => lo_b (lo_Ht q f s (lo_lay L m))) (2 ^ lo_c L 36)) := by
        rw [pk_lDiv (by omega) p0 (by omega), lN_i, e1, Nat.mul_div_cancel _ p0]
      refine br_f n0 ⟨n0, ?_⟩
      rw [ed]
      exact h _ _ _ _ (ki2, so2, va2, re2, vr2, tu2, dr2, sw2, ga2, ge2)
    | succ k ih =>
      intro i wk' hi hb
      have hi36 : i < 36 := by omega
      have hii : vp_in (nI i) 36 := vp_in_nI hi36 (by decide)
      have c : (nI i).toNatClampNeg = i := nI_clamp (by omega)
      have next : ∀ z : Int32, ((L i = true → z = nI 5 ∧ 5 ≤ 10) ∧ (L i = false → z = -1)) → wX_worlds_4 post ro am de sh ex (k + 1) (lN (5 ^ lo_c L (i + 1))) (nI (i + 1)) li (upd wk' i z) fv sv ki so va re vr tu dr sw ga ge := by
        intro z hz
        refine ih (i + 1) _ (by omega) (lt_s (fun j hj => ?_) ?_)
        · rw [pk_un (by omega)]; exact hb j hj
        · rw [pk_us]; exact hz
      refine br_f (nI_ge (b := 36) hi36 (by decide)) ⟨hii, ?_⟩
      unfold wX_worlds_29
      rw [c]
      cases hi' : L i
      · have e : lo_c L (i + 1) = lo_c L i := by show lo_c L i + (L i).toNat = _; rw [hi']; rfl
        rw [e] at next
        rw [(hV i hi36).2 hi']
        refine br_f (by decide) ⟨hii, nm_e ⟨hii, br_f (by decide) (nm_r (e' := lN (5 ^ lo_c L i)) ?_ (nm_r (nI_1 i) (next (-1) ⟨fun z => by rw [hi'] at z; exact absurd z (by decide), fun _ => rfl⟩)))⟩⟩
        exact Int64.mul_one _
      · have e : lo_c L (i + 1) = lo_c L i + 1 := by show lo_c L i + (L i).toNat = _; rw [hi']; rfl
        rw [e, Nat.pow_succ] at next
        obtain ⟨ew, hw⟩ := (hV i hi36).1 hi'
        rw [ew]
        exact br_t (nI_pos' (by omega)) ⟨hii, nm_e ⟨hii, br_t (nI_pos' (by omega)) (nm_r (lN_mul _ 5) (nm_r (nI_1 i) (next 5 ⟨fun _ => ⟨rfl, by decide⟩, fun z => by rw [hi'] at z; exact absurd z (by decide)⟩)))⟩⟩
  exact ⟨37, key 36 0 wk rfl lt_0⟩
/-- the sets of two variables are nested or apart -/
def lo_ok (q : Nat → Bool) (f s : Nat → Nat) (x y : Nat) : Prop := lo_aw q f s x &&& lo_aw q f s y = 0 ∨ lo_aw q f s x &&& lo_aw q f s y = lo_aw q f s x ∨ lo_aw q f s x &&& lo_aw q f s y = lo_aw q f s y
theorem lo_ok_s {x y : Nat} (h : lo_ok q f s x y) : lo_ok q f s y x := by
  unfold lo_ok at *
  rw [Nat.and_comm]
  rcases h with h | h | h
  · exact Or.inl h
  · exact Or.inr (Or.inr h)
  · exact Or.inr (Or.inl h)
theorem lo_ok_r {x : Nat} : lo_ok q f s x x := Or.inr (Or.inl (Nat.and_self _))
theorem lo_aw_lt (q : Nat → Bool) (f s : Nat → Nat) (x : Nat) : lo_aw q f s x < 16 := lo_mk_lt _ 4
theorem lx_nested (hq : lo_Q fv sv q f s) {post : Int32 → Prop} (h1 : (∀ x, x < 3 → ∀ y, y < x → lo_ok q f s x y) → post 1) (h0 : ¬ (∀ x, x < 3 → ∀ y, y < x → lo_ok q f s x y) → post 0) : wpX_nested post (ro, am, de, sh, ex, li, wk, fv, sv, ki, so, va, re, vr, tu, dr, sw, ga, ge) := by
  have inner : ∀ (J : Int32 → Prop) (x : Nat), x < 3 → ((∀ y, y < x → lo_ok q f s x y) → J (nI (x + 1))) → ∀ k y, y + k = x → (∀ z, z < y → lo_ok q f s x z) → wX_nested_9 post J (nI x) ro am de sh ex li wk fv sv ki so va re vr tu dr sw ga ge (k + 1) (nI y) := by
    intro J x hx hJ k
    induction k with
    | zero =>
      intro y hy hb
      have e : y = x := by omega
      subst e
      exact br_t (nI_le (Nat.le_refl _) (by omega)) (nm_r (nI_1 y) (hJ hb))
    | succ k ih =>
      intro y hy hb
      have next := ih (y + 1) (by omega)
      have l1 := lo_aw_lt q f s x
      have l2 := lo_aw_lt q f s y
      have l3 : lo_aw q f s x &&& lo_aw q f s y < 16 := lo_and_lt l2
      refine br_f (nI_ge (by omega) (by omega)) (lx_aw hq hx (lx_aw hq (by omega) (nm_r (nx_and _ _) ?_)))
      refine pk_eq (lo_aw q f s x &&& lo_aw q f s y) 0 (fun z => nm_r (nI_1 y) (next (lt_s hb (Or.inl z)))) (fun z => pk_eq (lo_aw q f s x &&& lo_aw q f s y) (lo_aw q f s x) (fun z2 => nm_r (nI_1 y) (next (lt_s hb (Or.inr (Or.inl z2))))) (fun z2 => pk_eq (lo_aw q f s x &&& lo_aw q f s y) (lo_aw q f s y) (fun z3 => nm_r (nI_1 y) (next (lt_s hb (Or.inr (Or.inr z3))))) (fun z3 => h0 (fun g => ?_))))
      rcases g x hx y (by omega) with u | u | u
      · exact z u
      · exact z2 u
      · exact z3 u
  have key : ∀ k x, x + k = 3 → (∀ z, z < x → ∀ y, y < z → lo_ok q f s z y) → wX_nested_2 post ro am de sh ex li wk fv sv ki so va re vr tu dr sw ga ge (k + 1) (nI x) := by
    intro k
    induction k with
    | zero =>
      intro x hx hb
      have e : x = 3 := by omega
      subst e
      exact br_t (by decide) (h1 hb)
    | succ k ih =>
      intro x hx hb
      exact br_f (nI_ge (b := 3) (by omega) (by decide)) ⟨x + 1, inner _ x (by omega) (fun z => ih (x + 1) (by omega) (lt_s hb z)) x 0 (by omega) lt_0⟩
  exact ⟨4, key 3 0 rfl lt_0⟩
end
section
variable {yl yo yt ya yf ys : Nat → Int32}
variable {q : Nat → Bool} {f s : Nat → Nat}
theorem ly_aw (hQ : lo_YQ q f s ya yf ys) {x : Nat} (hx : x < 3) {post : Int32 → Prop} (h : post (nI (lo_aw q f s x))) : wpY_atomsOf post (yl, yo, yt, ya, yf, ys) (nI x) := by
  have key : ∀ k r, r + k = 4 → wY_atomsOf_4 post (nI x) yl yo yt ya yf ys (k + 1) (nI (lo_mk (lo_ap q f s x) r)) (nI r) := by
    intro k
    induction k with
    | zero =>
      intro r hr
      have e : r = 4 := by omega
      subst e
      exact br_t (by decide) h
    | succ k ih =>
      intro r hr
      have hr4 : r < 4 := by omega
      have hi : vp_in (nI r) 4 := vp_in_nI hr4 (by decide)
      have next := ih (r + 1) (by omega)
      have e1 : nI r + 1 = nI (r + 1) := nI_1 r
      refine br_f (nI_ge (b := 4) hr4 (by decide)) ⟨hi, ?_⟩
      rw [nI_clamp (show r < 2 ^ 31 by omega)]
      cases hq : q r
      · rw [(hQ r hr4).2 hq]
        rw [lo_mk_f (by unfold lo_ap; rw [hq]; rfl)] at next
        exact br_t rfl (nm_r e1 next)
      · obtain ⟨a, b, c, hf, hs⟩ := (hQ r hr4).1 hq
        rw [a, b, c]
        refine br_f (by decide) ⟨hi, pk_eq (f r) x (fun z => ?_) (fun z => ⟨hi, pk_eq (s r) x (fun z2 => ?_) (fun z2 => ?_)⟩)⟩
        · rw [lo_mk_t (by unfold lo_ap; rw [hq, decide_eq_true (Or.inl z)]; rfl)] at next
          exact nm_r (lb_set (by omega)) (nm_r e1 next)
        · rw [lo_mk_t (by unfold lo_ap; rw [hq, decide_eq_true (Or.inr z2)]; rfl)] at next
          exact nm_r (lb_set (by omega)) (nm_r e1 next)
        · rw [lo_mk_f (by unfold lo_ap; rw [hq, decide_eq_false (fun y => y.elim z z2)]; rfl)] at next
          exact nm_r e1 next
  exact ⟨5, key 4 0 rfl⟩
theorem ly_nested (hQ : lo_YQ q f s ya yf ys) {post : Int32 → Prop} (h1 : (∀ x, x < 3 → ∀ y, y < 3 → lo_ok q f s x y) → post 1) (h0 : ¬ (∀ x, x < 3 → ∀ y, y < 3 → lo_ok q f s x y) → post 0) : wpY_nested post (yl, yo, yt, ya, yf, ys) := by
  have inner : ∀ (J : Int32 → Prop) (x : Nat), x < 3 → ((∀ y, y < 3 → lo_ok q f s x y) → J (nI (x + 1))) → ∀ k y, y + k = 3 → (∀ z, z < y → lo_ok q f s x z) → wY_nested_9 post J (nI x) yl yo yt ya yf ys (k + 1) (nI y) := by
    intro J x hx hJ k
    induction k with
    | zero =>
      intro y hy hb
      have e : y = 3 := by omega
      subst e
      exact br_t (by decide) (nm_r (nI_1 x) (hJ hb))
    | succ k ih =>
      intro y hy hb
      have next := ih (y + 1) (by omega)
      have l1 := lo_aw_lt q f s x
      have l2 := lo_aw_lt q f s y
      have l3 : lo_aw q f s x &&& lo_aw q f s y < 16 := lo_and_lt l2
      refine br_f (nI_ge (b := 3) (by omega) (by decide)) (ly_aw hQ hx (ly_aw hQ (by omega) (nm_r (nx_and _ _) ?_)))
      refine pk_eq (lo_aw q f s x &&& lo_aw q f s y) 0 (fun z => nm_r (nI_1 y) (next (lt_s hb (Or.inl z)))) (fun z => pk_eq (lo_aw q f s x &&& lo_aw q f s y) (lo_aw q f s x) (fun z2 => nm_r (nI_1 y) (next (lt_s hb (Or.inr (Or.inl z2))))) (fun z2 => pk_eq (lo_aw q f s x &&& lo_aw q f s y) (lo_aw q f s y) (fun z3 => nm_r (nI_1 y) (next (lt_s hb (Or.inr (Or.inr z3))))) (fun z3 => h0 (fun g => ?_))))
      rcases g x hx y (by omega) with u | u | u
      · exact z u
      · exact z2 u
      · exact z3 u
  have key : ∀ k x, x + k = 3 → (∀ z, z < x → ∀ y, y < 3 → lo_ok q f s z y) → wY_nested_2 post yl yo yt ya yf ys (k + 1) (nI x) := by
    intro k
    induction k with
    | zero =>
      intro x hx hb
      have e : x = 3 := by omega
      subst e
      exact br_t (by decide) (h1 hb)
    | succ k ih =>
      intro x hx hb
      exact br_f (nI_ge (b := 3) (by omega) (by decide)) ⟨4, inner _ x (by omega) (fun z => ih (x + 1) (by omega) (lt_s hb z)) 3 0 rfl lt_0⟩
  exact ⟨4, key 3 0 rfl lt_0⟩
end
end
section
/-! the heaviest world: what is looked for -/
def lo_P (g : Nat → Nat) : Nat → Nat
  | 0 => 1
  | n + 1 => lo_P g n * g n
theorem lo_P_eq {g h : Nat → Nat} : ∀ {n : Nat}, (∀ i, i < n → g i = h i) → lo_P g n = lo_P h n
  | 0, _ => rfl
  | n + 1, e => by
    show lo_P g n * _ = lo_P h n * _
    rw [lo_P_eq (n := n) (fun i hi => e i (by omega)), e n (by omega)]
theorem lo_P_ins {g h : Nat → Nat} {j v : Nat} (hg : g j = 1) (hh : h j = v) : ∀ {n : Nat}, j < n → (∀ i, i < n → i ≠ j → h i = g i) → lo_P h n = v * lo_P g n
  | 0, z, _ => absurd z (Nat.not_lt_zero j)
  | n + 1, z, e => by
    show lo_P h n * h n = v * (lo_P g n * g n)
    rcases Nat.lt_or_ge j n with y | y
    · rw [lo_P_ins hg hh (n := n) y (fun i hi => e i (by omega)), e n (by omega) (by omega), Nat.mul_assoc]
    · have q : j = n := by omega
      subst q
      rw [hg, hh, lo_P_eq (n := j) (fun i hi => e i (by omega) (by omega)), Nat.mul_one, Nat.mul_comm]
theorem lo_pr_P {L : Nat → Bool} {w : Nat → Nat} {ρ : Nat → Bool} : ∀ n, lo_pr L w ρ n = lo_P (fun i => if L i = true then (if ρ i = true then w i else 10 - w i) else 1) n
  | 0 => rfl
  | n + 1 => by
    show lo_pr L w ρ n * _ = lo_P _ n * _
    rw [lo_pr_P n]
theorem lo_pr_le {L : Nat → Bool} {w : Nat → Nat} {ρ : Nat → Bool} (hw : lo_W L w) : ∀ n, n ≤ 36 → lo_pr L w ρ n ≤ 10 ^ lo_c L n
  | 0, _ => Nat.le_refl _
  | n + 1, h => by
    show lo_pr L w ρ n * (if L n = true then (if ρ n = true then w n else 10 - w n) else 1) ≤ 10 ^ (lo_c L n + (L n).toNat)
    have ih := lo_pr_le (ρ := ρ) hw n (by omega)
    cases hL : L n
    · simp; exact ih
    · have := hw n (by omega) hL
      rw [Nat.pow_add]
      refine Nat.mul_le_mul ih ?_
      cases ρ n <;> simp <;> omega
theorem lo_pr_mono {L : Nat → Bool} {w : Nat → Nat} {ρ ρ' : Nat → Bool} : ∀ {n : Nat}, (∀ i, i < n → L i = true → (if ρ i = true then w i else 10 - w i) ≤ (if ρ' i = true then w i else 10 - w i)) → lo_pr L w ρ n ≤ lo_pr L w ρ' n
  | 0, _ => Nat.le_refl _
  | n + 1, h => by
    show lo_pr L w ρ n * _ ≤ lo_pr L w ρ' n * _
    refine Nat.mul_le_mul (lo_pr_mono (n := n) (fun i hi => h i (by omega))) ?_
    cases hL : L n
    · simp
    · have := h n (by omega) hL
      simpa using this
/-- the least of the greatest -/
def lo_bst (H : Nat → Prop) (p : Nat → Nat) (n b : Nat) : Prop := b < n ∧ H b ∧ (∀ y, y < n → H y → p y ≤ p b) ∧ ∀ y, y < b → H y → p y < p b
theorem lo_bst_u {H : Nat → Prop} {p : Nat → Nat} {n a b : Nat} (ha : lo_bst H p n a) (hb : lo_bst H p n b) : a = b := by
  rcases Nat.lt_trichotomy a b with z | z | z
  · have h1 := hb.2.2.2 a z ha.2.1
    have h2 := ha.2.2.1 b hb.1 hb.2.1
    omega
  · exact z
  · have h1 := ha.2.2.2 b z hb.2.1
    have h2 := hb.2.2.1 a ha.1 ha.2.1
    omega
theorem lo_bst_k {H : Nat → Prop} {p : Nat → Nat} {n b : Nat} (h : lo_bst H p n b) (hn : H n → p n ≤ p b) : lo_bst H p (n + 1) b := ⟨by have := h.1; omega, h.2.1, lt_s h.2.2.1 hn, h.2.2.2⟩
theorem lo_bst_n {H : Nat → Prop} {p : Nat → Nat} {n b : Nat} (h : lo_bst H p n b) (hn : H n) (hp : p b < p n) : lo_bst H p (n + 1) n :=
  ⟨by omega, hn, lt_s (fun y hy hy' => by have := h.2.2.1 y hy hy'; omega) (fun _ => Nat.le_refl _), fun y hy hy' => by have := h.2.2.1 y hy hy'; omega⟩
theorem lo_bst_0 {H : Nat → Prop} {p : Nat → Nat} {n : Nat} (h : ∀ y, y < n → ¬ H y) (hn : H n) : lo_bst H p (n + 1) n :=
  ⟨by omega, hn, lt_s (fun y hy hy' => absurd hy' (h y hy)) (fun _ => Nat.le_refl _), fun y hy hy' => absurd hy' (h y hy)⟩
theorem lo_bst_ex (H : Nat → Prop) (p : Nat → Nat) : ∀ n, (∀ y, y < n → ¬ H y) ∨ ∃ b, lo_bst H p n b
  | 0 => Or.inl lt_0
  | n + 1 => by
    rcases lo_bst_ex H p n with z | ⟨b, z⟩
    · rcases Classical.em (H n) with y | y
      · exact Or.inr ⟨n, lo_bst_0 z y⟩
      · exact Or.inl (lt_s z y)
    · rcases Classical.em (H n) with y | y
      · rcases Nat.lt_or_ge (p b) (p n) with x | x
        · exact Or.inr ⟨n, lo_bst_n z y x⟩
        · exact Or.inr ⟨b, lo_bst_k z (fun _ => x)⟩
      · exact Or.inr ⟨b, lo_bst_k z (fun k => absurd k y)⟩
/-- every world has a number -/
theorem lo_enc (L ρ : Nat → Bool) : ∀ n, ∃ m, m < 2 ^ lo_c L n ∧ ∀ i, i < n → L i = true → m.testBit (lo_c L i) = ρ i
  | 0 => ⟨0, by show 0 < 1; omega, fun i hi => absurd hi (Nat.not_lt_zero i)⟩
  | n + 1 => by
    obtain ⟨m, hm, hb⟩ := lo_enc L ρ n
    cases hL : L n
    · have hc : lo_c L (n + 1) = lo_c L n := by show lo_c L n + (L n).toNat = _; rw [hL]; rfl
      rw [hc]
      exact ⟨m, hm, lt_s hb (fun z => by rw [hL] at z; exact absurd z (by decide))⟩
    · have hc : lo_c L (n + 1) = lo_c L n + 1 := by show lo_c L n + (L n).toNat = _; rw [hL]; rfl
      rw [hc, Nat.pow_succ]
      cases hr : ρ n
      · exact ⟨m, by omega, lt_s hb (fun _ => by rw [Nat.testBit_lt_two_pow hm, hr])⟩
      · refine ⟨2 ^ lo_c L n + m, by omega, lt_s (fun i hi hi' => ?_) (fun _ => ?_)⟩
        · rw [Nat.testBit_two_pow_add_gt (lo_c_lt L hi hi')]; exact hb i hi hi'
        · rw [Nat.testBit_two_pow_add_eq, Nat.testBit_lt_two_pow hm, hr]; rfl
theorem lo_dec {L : Nat → Bool} {b i : Nat} : ∀ n, lo_c L i ≤ b → b < lo_c L n → ∃ j, i ≤ j ∧ j < n ∧ L j = true ∧ lo_c L j = b
  | 0, _, h => absurd h (Nat.not_lt_zero b)
  | n + 1, h1, h2 => by
    rcases Nat.lt_or_ge b (lo_c L n) with z | z
    · obtain ⟨j, a1, a2, a3, a4⟩ := lo_dec n h1 z
      exact ⟨j, a1, by omega, a3, a4⟩
    · have h2' : b < lo_c L n + (L n).toNat := h2
      cases hL : L n
      · rw [hL] at h2'
        simp only [Bool.toNat_false] at h2'
        omega
      · rw [hL] at h2'
        simp only [Bool.toNat_true] at h2'
        have e : lo_c L n = b := by omega
        refine ⟨n, ?_, by omega, hL, e⟩
        rcases Nat.lt_or_ge n i with y | y
        · have := lo_c_lt L y hL
          omega
        · exact y
/-- a world that obeys the marks: 11 absent for good, 12 there for good -/
def lo_Cons (L : Nat → Bool) (mk : Nat → Nat) (ρ : Nat → Bool) : Prop := ∀ i, i < 36 → (ρ i = true → L i = true) ∧ (L i = true → (mk i = 11 → ρ i = false) ∧ (mk i = 12 → ρ i = true))
def lo_Mk (L : Nat → Bool) (w mk : Nat → Nat) : Prop := ∀ i, i < 36 → L i = true → w i ≤ 10 ∧ (mk i = w i ∨ mk i = 11 ∨ mk i = 12)
def lo_sat (q : Nat → Bool) (f s : Nat → Nat) (u : Nat) (ρ : Nat → Bool) : Prop := ∀ r, r < 4 → q r = true → ρ (lo_row f s u r) = true
def lo_fo (q : Nat → Bool) (f s : Nat → Nat) (u i : Nat) : Bool := q (i / 9) && decide (lo_row f s u (i / 9) = i)
/-- the best world under the values u -/
def lo_best (L q : Nat → Bool) (w mk f s : Nat → Nat) (u : Nat) : Nat → Bool := fun i => L i && (lo_fo q f s u i || (decide (mk i ≠ 11) && (decide (mk i = 12) || decide (10 - w i < w i))))
def lo_d (w mk : Nat → Nat) (i : Nat) : Nat := if mk i = 11 then 10 - w i else if mk i = 12 then w i else if w i ≤ 10 - w i then 10 - w i else w i
def lo_g2 (L q : Nat → Bool) (w mk f s : Nat → Nat) (u : Nat) : Nat → Nat := fun i => if (L i && !lo_fo q f s u i) = true then lo_d w mk i else 1
def lo_g1 (q : Nat → Bool) (w f s : Nat → Nat) (u : Nat) : Nat → Nat := fun r => if q r = true then w (lo_row f s u r) else 1
def lo_can (L q : Nat → Bool) (mk f s : Nat → Nat) (u : Nat) : Prop := ∀ r, r < 4 → q r = true → L (lo_row f s u r) = true ∧ mk (lo_row f s u r) ≠ 11
section
variable {L q : Nat → Bool} {w mk f s : Nat → Nat} {u : Nat}
theorem lo_row9 (hF : lo_F f s q) (hu : ∀ x, x < 3 → lo_vl u x < 3) {r : Nat} (hr : r < 4) (hq : q r = true) : lo_row f s u r < 36 ∧ lo_row f s u r / 9 = r := by
  obtain ⟨hf, hs⟩ := hF r hr hq
  have a := hu _ hf
  have b := hu _ hs
  unfold lo_row
  omega
theorem lo_fo_t (hF : lo_F f s q) (hu : ∀ x, x < 3 → lo_vl u x < 3) {r : Nat} (hr : r < 4) (hq : q r = true) : lo_fo q f s u (lo_row f s u r) = true := by
  have h := (lo_row9 hF hu hr hq).2
  unfold lo_fo
  rw [h, hq, decide_eq_true rfl]
  rfl
theorem lo_fo_e {i : Nat} (h : lo_fo q f s u i = true) : q (i / 9) = true ∧ lo_row f s u (i / 9) = i := by
  unfold lo_fo at h
  rw [Bool.and_eq_true, decide_eq_true_eq] at h
  exact h
theorem lo_best_f {i : Nat} (h : lo_fo q f s u i = true) (hL : L i = true) : lo_best L q w mk f s u i = true := by
  unfold lo_best
  rw [hL, h]; rfl
theorem lo_best_n {i : Nat} (h : lo_fo q f s u i = false) (hL : L i = true) : (if lo_best L q w mk f s u i = true then w i else 10 - w i) = lo_d w mk i := by
  unfold lo_best lo_d
  rw [hL, h, Bool.true_and, Bool.false_or]
  by_cases a : mk i = 11
  · rw [if_pos a]; simp [a]
  · rw [if_neg a]
    by_cases b : mk i = 12
    · rw [if_pos b]; simp [b]
    · rw [if_neg b]
      by_cases c : w i ≤ 10 - w i
      · rw [if_pos c]; simp [a, b, show ¬ 10 - w i < w i by omega]
      · rw [if_neg c]; simp [a, b, show 10 - w i < w i by omega]
theorem lo_best_pr (hF : lo_F f s q) (hu : ∀ x, x < 3 → lo_vl u x < 3) (hc : lo_can L q mk f s u) : lo_P (lo_g1 q w f s u) 4 * lo_P (lo_g2 L q w mk f s u) 36 = lo_pr L w (lo_best L q w mk f s u) 36 := by
  have key : ∀ r, r ≤ 4 → lo_P (lo_g1 q w f s u) r * lo_P (lo_g2 L q w mk f s u) 36 = lo_P (fun i => if (decide (i / 9 < r) && lo_fo q f s u i) = true then w i else lo_g2 L q w mk f s u i) 36 := by
    intro r
    induction r with
    | zero =>
      intro _
      show 1 * _ = _
      rw [Nat.one_mul]
      exact lo_P_eq (fun i _ => by simp)
    | succ r ih =>
      intro hr
      have ih' := ih (by omega)
      show lo_P (lo_g1 q w f s u) r * lo_g1 q w f s u r * _ = _
      rw [Nat.mul_right_comm, ih']
      cases hq : q r
      · have e : lo_g1 q w f s u r = 1 := by unfold lo_g1; rw [hq]; rfl
        rw [e, Nat.mul_one]
        refine lo_P_eq (fun i _ => ?_)
        have e2 : (decide (i / 9 < r) && lo_fo q f s u i) = (decide (i / 9 < r + 1) && lo_fo q f s u i) := by
          by_cases z : i / 9 = r
          · have : lo_fo q f s u i = false := by unfold lo_fo; rw [z, hq]; rfl
            rw [this, Bool.and_false, Bool.and_false]
          · by_cases y : i / 9 < r
            · rw [decide_eq_true y, decide_eq_true (by omega)]
            · rw [decide_eq_false y, decide_eq_false (by omega)]
        rw [e2]
      · have e : lo_g1 q w f s u r = w (lo_row f s u r) := by unfold lo_g1; rw [hq]; rfl
        obtain ⟨h36, h9⟩ := lo_row9 hF hu (show r < 4 by omega) hq
        have hfo := lo_fo_t hF hu (show r < 4 by omega) hq
        rw [e, Nat.mul_comm]
        refine (lo_P_ins (j := lo_row f s u r) ?_ ?_ h36 (fun i hi ne => ?_)).symm
        · show (if _ = true then _ else lo_g2 L q w mk f s u (lo_row f s u r)) = 1
          rw [h9, decide_eq_false (by omega), Bool.false_and]
          unfold lo_g2
          rw [hfo]
          simp
        · show (if _ = true then _ else _) = _
          rw [h9, decide_eq_true (by omega), hfo]
          rfl
        · have e2 : (decide (i / 9 < r + 1) && lo_fo q f s u i) = (decide (i / 9 < r) && lo_fo q f s u i) := by
            by_cases z : i / 9 = r
            · have : lo_fo q f s u i = false := by
                cases y : lo_fo q f s u i
                · rfl
                · have := (lo_fo_e y).2
                  rw [z] at this
                  exact absurd this.symm ne
              rw [this, Bool.and_false, Bool.and_false]
            · by_cases y : i / 9 < r
              · rw [decide_eq_true y, decide_eq_true (by omega)]
              · rw [decide_eq_false y, decide_eq_false (by omega)]
          rw [e2]
  rw [key 4 (Nat.le_refl _), lo_pr_P]
  refine lo_P_eq (fun i hi => ?_)
  rw [decide_eq_true (show i / 9 < 4 by omega), Bool.true_and]
  cases hfo : lo_fo q f s u i
  · rw [if_neg (by decide)]
    unfold lo_g2
    rw [hfo]
    cases hL : L i
    · rfl
    · rw [if_pos (by rfl), if_pos rfl, lo_best_n hfo hL]
  · obtain ⟨e1, e2⟩ := lo_fo_e hfo
    have hL : L i = true := by
      have := (hc (i / 9) (by omega) e1).1
      rw [e2] at this
      exact this
    rw [if_pos rfl, hL, if_pos rfl, lo_best_f hfo hL, if_pos rfl]
theorem lo_best_cons (hc : lo_can L q mk f s u) : lo_Cons L mk (lo_best L q w mk f s u) := by
  intro i hi
  refine ⟨fun h => ?_, fun hL => ⟨fun h => ?_, fun h => ?_⟩⟩
  · unfold lo_best at h
    rw [Bool.and_eq_true] at h
    exact h.1
  · cases hfo : lo_fo q f s u i
    · unfold lo_best
      rw [hfo]
      simp [h]
    · obtain ⟨e1, e2⟩ := lo_fo_e hfo
      have := (hc (i / 9) (by omega) e1).2
      rw [e2] at this
      exact absurd h this
  · unfold lo_best
    rw [hL]
    simp [h]
theorem lo_best_sat (hF : lo_F f s q) (hu : ∀ x, x < 3 → lo_vl u x < 3) (hc : lo_can L q mk f s u) : lo_sat q f s u (lo_best L q w mk f s u) := fun r hr hq => lo_best_f (lo_fo_t hF hu hr hq) (hc r hr hq).1
theorem lo_best_max {ρ : Nat → Bool} (hM : lo_Mk L w mk) (hρ : lo_Cons L mk ρ) (hs : lo_sat q f s u ρ) : lo_pr L w ρ 36 ≤ lo_pr L w (lo_best L q w mk f s u) 36 := by
  refine lo_pr_mono (fun i hi hL => ?_)
  cases hfo : lo_fo q f s u i
  · rw [lo_best_n hfo hL]
    obtain ⟨c1, c2⟩ := (hρ i hi).2 hL
    have := (hM i hi hL).1
    unfold lo_d
    by_cases a : mk i = 11
    · rw [if_pos a, c1 a]; simp
    · rw [if_neg a]
      by_cases b : mk i = 12
      · rw [if_pos b, c2 b]; simp
      · rw [if_neg b]
        cases ρ i <;> simp <;> split <;> omega
  · obtain ⟨e1, e2⟩ := lo_fo_e hfo
    have := hs (i / 9) (by omega) e1
    rw [e2] at this
    rw [this, lo_best_f hfo hL]
    exact Nat.le_refl _
theorem lo_can_of {ρ : Nat → Bool} (hF : lo_F f s q) (hu : ∀ x, x < 3 → lo_vl u x < 3) (hρ : lo_Cons L mk ρ) (hs : lo_sat q f s u ρ) : lo_can L q mk f s u := by
  intro r hr hq
  have h := hs r hr hq
  obtain ⟨h36, _⟩ := lo_row9 hF hu hr hq
  have hL := (hρ _ h36).1 h
  refine ⟨hL, fun z => ?_⟩
  have := ((hρ _ h36).2 hL).1 z
  rw [h] at this
  exact absurd this (by decide)
theorem lo_Ht_sat (hF : lo_F f s q) (ρ : Nat → Bool) : lo_Ht q f s ρ ↔ ∃ c, c < 27 ∧ lo_sat q f s (lo_fc c) ρ := by
  constructor
  · rintro ⟨σ, g1, g2⟩
    obtain ⟨c, hc, hσ⟩ := lo_fc_of (fun x hx => (g1 x hx).1)
    refine ⟨c, hc, fun r hr hq => ?_⟩
    obtain ⟨hf, hs⟩ := hF r hr hq
    unfold lo_row
    rw [hσ _ hf, hσ _ hs]
    exact g2 r hr hq
  · rintro ⟨c, hc, h⟩
    exact ⟨lo_vl (lo_fc c), fun x hx => ⟨lo_fc_vl c hc x hx, Or.inl rfl⟩, fun r hr hq => h r hr hq⟩
end
end
section
/-! the heaviest world: the component -/
def lo_VM (L : Nat → Bool) (mk : Nat → Nat) (wk : Nat → Int32) : Prop := ∀ i, i < 36 → (L i = true → wk i = nI (mk i)) ∧ (L i = false → wk i = -1)
/-- the greatest weight of a world that obeys the marks and in which the query holds -/
def lo_gs (L q : Nat → Bool) (w mk f s : Nat → Nat) (g : Int64) : Prop := (g = -1 ∧ ∀ ρ, lo_Cons L mk ρ → ¬ lo_Ht q f s ρ) ∨ (∃ ρ, g = lN (lo_pr L w ρ 36) ∧ lo_Cons L mk ρ ∧ lo_Ht q f s ρ ∧ ∀ ρ', lo_Cons L mk ρ' → lo_Ht q f s ρ' → lo_pr L w ρ' 36 ≤ lo_pr L w ρ 36)
theorem lb_lm1 {n : Nat} (h : n < 2 ^ 63) : (-1 : Int64) ≤ lN n ∧ ¬ lN n ≤ -1 := by
  have e : (-1 : Int64).toInt = -1 := by decide
  rw [Int64.le_iff_toInt_le, Int64.le_iff_toInt_le, pk_lT h, e]
  omega
section
variable {ro am de ex : Int32} {sh : Int64} {li wk fv sv ki so va re vr tu dr sw ge : Nat → Int32} {ga : Nat → Int64}
variable {q : Nat → Bool} {f s : Nat → Nat} {L : Nat → Bool} {w mk : Nat → Nat}
/-- a row that isn't asked for -/
theorem lx_wf0 (hV : lo_V L w li) (hM : lo_Mk L w mk) (hVM : lo_VM L mk wk) {i p : Nat} (hi : i < 36) {x1 x4 : Int32} {post : Int64 → Prop} {J : Int64 → Int32 → Prop} (hJ : J (lN (p * (if L i = true then lo_d w mk i else 1))) (nI (i + 1))) : wX_weightFor_129 post J x1 (lN p) x4 (nI i) 0 ro am de sh ex li wk fv sv ki so va re vr tu dr sw ga ge := by
  have hii : vp_in (nI i) 36 := vp_in_nI hi (by decide)
  have c : (nI i).toNatClampNeg = i := nI_clamp (by omega)
  unfold wX_weightFor_129 wX_weightFor_169 wX_weightFor_197
  rw [c]
  refine ⟨hii, ?_⟩
  cases hL : L i
  · rw [hL, if_neg (by decide), Nat.mul_one] at hJ
    rw [(hV i hi).2 hL]
    exact br_t (by decide) (nm_r (nI_1 i) hJ)
  · rw [hL, if_pos rfl] at hJ
    obtain ⟨el, hw⟩ := (hV i hi).1 hL
    have ek := (hVM i hi).1 hL
    have hm := (hM i hi hL).2
    rw [el, ek, show (10 : Int32) - nI (w i) = nI (10 - w i) from pk_sub (a := 10) hw]
    refine br_f (nI_pos (by omega)) (br_t rfl ⟨hii, ?_⟩)
    unfold lo_d at hJ
    by_cases a : mk i = 11
    · rw [if_pos a] at hJ
      rw [a]
      refine br_t rfl ⟨hii, br_f (by decide) ⟨hii, br_t ?_ ?_⟩⟩
      · exact Int32.le_trans (show (-1 : Int32) ≤ 0 by decide) (nI_pos' (by omega))
      · rw [nI_l (show 10 - w i < 2 ^ 31 by omega), lN_mul]
        exact nm_e (nm_r (nI_1 i) hJ)
    · rw [if_neg a] at hJ
      have a' : ¬ nI (mk i) = 11 := fun z => a ((nI_eq (b := 11) (by omega) (by omega)).mp z)
      refine br_f a' ⟨hii, hii, ?_⟩
      by_cases b : mk i = 12
      · rw [if_pos b] at hJ
        rw [b]
        refine br_t rfl (br_f ?_ ?_)
        · intro z
          have z1 := Int32.le_trans (nI_pos' (n := w i) (by omega)) z
          exact absurd z1 (by decide)
        · rw [nI_l (show w i < 2 ^ 31 by omega), lN_mul]
          exact nm_e (nm_r (nI_1 i) hJ)
      · rw [if_neg b] at hJ
        have b' : ¬ nI (mk i) = 12 := fun z => b ((nI_eq (b := 12) (by omega) (by omega)).mp z)
        refine br_f b' ⟨hii, pk_le (w i) (10 - w i) (fun z => ?_) (fun z => ?_)⟩
        · rw [if_pos z] at hJ
          rw [nI_l (show 10 - w i < 2 ^ 31 by omega), lN_mul]
          exact nm_e (nm_r (nI_1 i) hJ)
        · rw [if_neg (by omega)] at hJ
          rw [nI_l (show w i < 2 ^ 31 by omega), lN_mul]
          exact nm_e (nm_r (nI_1 i) hJ)
/-- a row that is asked for -/
theorem lx_wf1 (hV : lo_V L w li) {i : Nat} (hi : i < 36) {x1 x4 : Int32} {x2 : Int64} {post : Int64 → Prop} {J : Int64 → Int32 → Prop} (hJ : J x2 (nI (i + 1))) : wX_weightFor_129 post J x1 x2 x4 (nI i) 1 ro am de sh ex li wk fv sv ki so va re vr tu dr sw ga ge := by
  have hii : vp_in (nI i) 36 := vp_in_nI hi (by decide)
  have c : (nI i).toNatClampNeg = i := nI_clamp (by omega)
  unfold wX_weightFor_129
  rw [c]
  refine ⟨hii, ?_⟩
  cases hL : L i
  · rw [(hV i hi).2 hL]
    exact br_t (by decide) (nm_r (nI_1 i) hJ)
  · obtain ⟨el, hw⟩ := (hV i hi).1 hL
    rw [el]
    exact br_f (nI_pos (by omega)) (br_f (by decide) (nm_r (nI_1 i) hJ))
theorem lx_wf88 (hq : lo_Q fv sv q f s) (hV : lo_V L w li) (hM : lo_Mk L w mk) (hVM : lo_VM L mk wk) {u : Nat} (hu : u < 64) {p0 : Nat} {post : Int64 → Prop} (h : post (lN (p0 * lo_P (lo_g2 L q w mk f s u) 36))) : ∀ k i, i + k = 36 → wX_weightFor_88 post (nI u) (nI (lo_mk q 4)) ro am de sh ex li wk fv sv ki so va re vr tu dr sw ga ge (k + 1) (lN (p0 * lo_P (lo_g2 L q w mk f s u) i)) (nI i) := by
  intro k
  induction k with
  | zero =>
    intro i hi
    have e : i = 36 := by omega
    subst e
    exact br_t (by decide) h
  | succ k ih =>
    intro i hi
    have hi36 : i < 36 := by omega
    have hr : i / 9 < 4 := by omega
    have next := ih (i + 1) (by omega)
    have hb := nx_bit (k := lo_mk q 4) (j := i / 9) (Nat.lt_of_lt_of_le (lo_mk_lt q 4) (by decide)) (by omega)
    rw [lo_mk_tb, decide_eq_true hr, Bool.true_and] at hb
    have e : lo_P (lo_g2 L q w mk f s u) (i + 1) = lo_P (lo_g2 L q w mk f s u) i * lo_g2 L q w mk f s u i := rfl
    rw [e, ← Nat.mul_assoc] at next
    have free : lo_fo q f s u i = false → wX_weightFor_129 post (wX_weightFor_88 post (nI u) (nI (lo_mk q 4)) ro am de sh ex li wk fv sv ki so va re vr tu dr sw ga ge (k + 1)) (nI u) (lN (p0 * lo_P (lo_g2 L q w mk f s u) i)) (nI (lo_mk q 4)) (nI i) 0 ro am de sh ex li wk fv sv ki so va re vr tu dr sw ga ge := by
      intro hfo
      refine lx_wf0 hV hM hVM hi36 ?_
      have e2 : lo_g2 L q w mk f s u i = if L i = true then lo_d w mk i else 1 := by unfold lo_g2; rw [hfo, Bool.not_false, Bool.and_true]
      rw [e2] at next
      exact next
    refine br_f (nI_ge (b := 36) hi36 (by decide)) ⟨by decide, nm_r (lb_d9 i hi36) ?_⟩
    cases hQ : q (i / 9)
    · refine br_t (hb.mpr hQ) ?_
      unfold wX_weightFor_128
      exact free (by unfold lo_fo; rw [hQ]; rfl)
    · have hn : ¬ q (i / 9) = false := by rw [hQ]; decide
      refine br_f (fun z => hn (hb.mp z)) (lx_row hq hu hr hQ ?_)
      obtain ⟨_, _, hf, hs⟩ := (hq _ hr).1 hQ
      have v1 := lo_vl_le u (f (i / 9))
      have v2 := lo_vl_le u (s (i / 9))
      have hlt : lo_row f s u (i / 9) < 64 := by unfold lo_row; omega
      refine pk_eq (lo_row f s u (i / 9)) i (fun z => lx_wf1 hV hi36 ?_) (fun z => ?_)
      · have hfo : lo_fo q f s u i = true := by unfold lo_fo; rw [hQ, decide_eq_true z]; rfl
        have e2 : lo_g2 L q w mk f s u i = 1 := by unfold lo_g2; rw [hfo, Bool.not_true, Bool.and_false]; rfl
        rw [e2, Nat.mul_one] at next
        exact next
      · unfold wX_weightFor_128
        exact free (by unfold lo_fo; rw [hQ, decide_eq_false z]; rfl)
theorem lx_wf (hq : lo_Q fv sv q f s) (hV : lo_V L w li) (hM : lo_Mk L w mk) (hVM : lo_VM L mk wk) {u : Nat} (hu : u < 64) (hu3 : ∀ x, x < 3 → lo_vl u x < 3) {post : Int64 → Prop} (h1 : lo_can L q mk f s u → post (lN (lo_pr L w (lo_best L q w mk f s u) 36))) (h0 : ¬ lo_can L q mk f s u → post (-1)) : wpX_weightFor post (ro, am, de, sh, ex, li, wk, fv, sv, ki, so, va, re, vr, tu, dr, sw, ga, ge) (nI u) := by
  have hF : lo_F f s q := fun r hr z => by
    obtain ⟨_, _, hf, hs⟩ := (hq r hr).1 z
    exact ⟨hf, hs⟩
  have key : ∀ k r, r + k = 4 → (∀ y, y < r → q y = true → L (lo_row f s u y) = true ∧ mk (lo_row f s u y) ≠ 11) → wX_weightFor_8 post (nI u) ro am de sh ex li wk fv sv ki so va re vr tu dr sw ga ge (k + 1) (lN (lo_P (lo_g1 q w f s u) r)) (nI (lo_mk q r)) (nI r) := by
    intro k
    induction k with
    | zero =>
      intro r hr hb
      have e : r = 4 := by omega
      subst e
      refine br_t (by decide) ⟨37, ?_⟩
      have k88 := lx_wf88 (ro := ro) (am := am) (de := de) (sh := sh) (ex := ex) (ki := ki) (so := so) (va := va) (re := re) (vr := vr) (tu := tu) (dr := dr) (sw := sw) (ga := ga) (ge := ge) hq hV hM hVM hu (p0 := lo_P (lo_g1 q w f s u) 4) (post := post) (by rw [lo_best_pr hF hu3 hb]; exact h1 hb) 36 0 rfl
      rw [show lo_P (lo_g2 L q w mk f s u) 0 = 1 from rfl, Nat.mul_one] at k88
      exact k88
    | succ k ih =>
      intro r hr hb
      have hr4 : r < 4 := by omega
      have next := ih (r + 1) (by omega)
      have e : lo_P (lo_g1 q w f s u) (r + 1) = lo_P (lo_g1 q w f s u) r * lo_g1 q w f s u r := rfl
      rw [e] at next
      refine br_f (nI_ge (b := 4) hr4 (by decide)) ⟨vp_in_nI hr4 (by decide), ?_⟩
      rw [nI_clamp (show r < 2 ^ 31 by omega)]
      cases hQ : q r
      · rw [((hq r hr4).2 hQ).1]
        rw [show lo_g1 q w f s u r = 1 by unfold lo_g1; rw [hQ]; rfl, Nat.mul_one, lo_mk_f hQ] at next
        exact br_t (by decide) (nm_r (nI_1 r) (next (lt_s hb (fun z => by rw [hQ] at z; exact absurd z (by decide)))))
      · obtain ⟨e1, _, hf, _⟩ := (hq r hr4).1 hQ
        obtain ⟨hrow, _⟩ := lo_row9 hF hu3 hr4 hQ
        have hri : vp_in (nI (lo_row f s u r)) 36 := vp_in_nI hrow (by decide)
        rw [e1]
        refine br_f (nI_pos (by omega)) (lx_row hq hu hr4 hQ ?_)
        rw [nI_clamp (show lo_row f s u r < 2 ^ 31 by omega)]
        refine ⟨hri, ?_⟩
        cases hL : L (lo_row f s u r)
        · rw [(hVM _ hrow).2 hL]
          refine br_t (by decide) (h0 (fun g => ?_))
          have := (g r hr4 hQ).1
          rw [hL] at this
          exact absurd this (by decide)
        · have hm := hM _ hrow hL
          obtain ⟨el, hw⟩ := (hV _ hrow).1 hL
          rw [(hVM _ hrow).1 hL, el]
          refine br_f (nI_pos (by omega)) ⟨hri, pk_eq (mk (lo_row f s u r)) 11 (fun z => h0 (fun g => absurd z (g r hr4 hQ).2)) (fun z => ⟨hri, ?_⟩)⟩
          rw [nI_l (show w (lo_row f s u r) < 2 ^ 31 by omega), lN_mul]
          rw [show lo_g1 q w f s u r = w (lo_row f s u r) by unfold lo_g1; rw [hQ]; rfl, lo_mk_t hQ] at next
          exact nm_e (nm_r (lb_set (by omega)) (nm_r (nI_1 r) (next (lt_s hb (fun _ => ⟨hL, z⟩)))))
  exact ⟨5, key 4 0 rfl lt_0⟩
theorem lx_gw (hq : lo_Q fv sv q f s) (hV : lo_V L w li) (hL10 : lo_c L 36 ≤ 10) (hM : lo_Mk L w mk) (hVM : lo_VM L mk wk) {post : Int64 → Prop} (h : ∀ g, lo_gs L q w mk f s g → post g) : wpX_greatestWeight post (ro, am, de, sh, ex, li, wk, fv, sv, ki, so, va, re, vr, tu, dr, sw, ga, ge) := by
  have hF : lo_F f s q := fun r hr z => by
    obtain ⟨_, _, hf, hs⟩ := (hq r hr).1 z
    exact ⟨hf, hs⟩
  have hW := lo_V_W hV
  have hbd : ∀ ρ, lo_pr L w ρ 36 < 2 ^ 63 := by
    intro ρ
    have a := lo_pr_le (ρ := ρ) hW 36 (Nat.le_refl _)
    have b := lo_10 hL10
    omega
  have key : ∀ k c (x1 : Int64), c + k = 27 → ((x1 = -1 ∧ ∀ y, y < c → ∀ ρ, lo_Cons L mk ρ → ¬ lo_sat q f s (lo_fc y) ρ) ∨ (∃ ρ, x1 = lN (lo_pr L w ρ 36) ∧ lo_Cons L mk ρ ∧ lo_Ht q f s ρ ∧ ∀ y, y < c → ∀ ρ', lo_Cons L mk ρ' → lo_sat q f s (lo_fc y) ρ' → lo_pr L w ρ' 36 ≤ lo_pr L w ρ 36)) → wX_greatestWeight_6 post ro am de sh ex li wk fv sv ki so va re vr tu dr sw ga ge (k + 1) x1 (nI c) := by
    intro k
    induction k with
    | zero =>
      intro c x1 hc hx
      have e : c = 27 := by omega
      subst e
      refine br_t (by decide) (h x1 ?_)
      rcases hx with ⟨e, hx⟩ | ⟨ρ, e, h1, h2, h3⟩
      · refine Or.inl ⟨e, fun ρ hρ hH => ?_⟩
        obtain ⟨y, hy, hs⟩ := (lo_Ht_sat hF ρ).mp hH
        exact hx y hy ρ hρ hs
      · refine Or.inr ⟨ρ, e, h1, h2, fun ρ' hρ hH => ?_⟩
        obtain ⟨y, hy, hs⟩ := (lo_Ht_sat hF ρ').mp hH
        exact h3 y hy ρ' hρ hs
    | succ k ih =>
      intro c x1 hc hx
      have hc27 : c < 27 := by omega
      have hu := lo_fc_lt c hc27
      have hu3 := lo_fc_vl c hc27
      have next := fun x1 => ih (c + 1) x1 (by omega)
      refine br_f (nI_ge (b := 27) hc27 (by decide)) ⟨by decide, by decide, by decide, by decide, ?_⟩
      rw [lb_fc c hc27]
      refine lx_wf hq hV hM hVM hu hu3 (fun z => ?_) (fun z => ?_)
      · have bc := lo_best_cons (w := w) z
        have bs := lo_best_sat (w := w) hF hu3 z
        have bH : lo_Ht q f s (lo_best L q w mk f s (lo_fc c)) := (lo_Ht_sat hF _).mpr ⟨c, hc27, bs⟩
        have bm := fun ρ' (h1 : lo_Cons L mk ρ') (h2 : lo_sat q f s (lo_fc c) ρ') => lo_best_max hM h1 h2
        rcases hx with ⟨e, hx⟩ | ⟨ρ, e, h1, h2, h3⟩
        · rw [e]
          refine br_f (lb_lm1 (hbd _)).2 (nm_r (nI_1 c) (next _ (Or.inr ⟨_, rfl, bc, bH, lt_s (fun y hy ρ' hρ hs => absurd hs (hx y hy ρ' hρ)) bm⟩)))
        · rw [e]
          by_cases y : lo_pr L w (lo_best L q w mk f s (lo_fc c)) 36 ≤ lo_pr L w ρ 36
          · refine br_t ((pk_lLE (hbd _) (hbd _)).mpr y) (nm_r (nI_1 c) (next _ (Or.inr ⟨ρ, rfl, h1, h2, lt_s h3 (fun ρ' a b => Nat.le_trans (bm ρ' a b) y)⟩)))
          · refine br_f (fun y' => y ((pk_lLE (hbd _) (hbd _)).mp y')) (nm_r (nI_1 c) (next _ (Or.inr ⟨_, rfl, bc, bH, lt_s (fun y1 hy ρ' hρ hs => ?_) bm⟩)))
            have := h3 y1 hy ρ' hρ hs
            omega
      · have none : ∀ ρ, lo_Cons L mk ρ → ¬ lo_sat q f s (lo_fc c) ρ := fun ρ a b => z (lo_can_of hF hu3 a b)
        have le : (-1 : Int64) ≤ x1 := by
          rcases hx with ⟨e, _⟩ | ⟨ρ, e, _⟩
          · rw [e]; decide
          · rw [e]; exact (lb_lm1 (hbd _)).1
        refine br_t le (nm_r (nI_1 c) (next x1 ?_))
        rcases hx with ⟨e, hx⟩ | ⟨ρ, e, h1, h2, h3⟩
        · exact Or.inl ⟨e, lt_s hx none⟩
        · exact Or.inr ⟨ρ, e, h1, h2, lt_s h3 (fun ρ' a b => absurd b (none ρ' a))⟩
  exact ⟨28, key 27 0 (-1) rfl (Or.inl ⟨rfl, lt_0⟩)⟩
end
end
section
/-! the heaviest world: both loops -/
theorem lo_lt_bits {m b k : Nat} (h0 : m.testBit k = false) (h1 : b.testBit k = true) (hs : ∀ t, k < t → m.testBit t = b.testBit t) : m < b := by
  have e : m >>> (k + 1) = b >>> (k + 1) := Nat.eq_of_testBit_eq (fun t => by
    rw [Nat.testBit_shiftRight, Nat.testBit_shiftRight]
    exact hs _ (by omega))
  rw [Nat.shiftRight_succ, Nat.shiftRight_succ, Nat.shiftRight_eq_div_pow, Nat.shiftRight_eq_div_pow] at e
  rw [Nat.testBit_eq_decide_div_mod_eq] at h0 h1
  have h0' := of_decide_eq_false h0
  have h1' := of_decide_eq_true h1
  rcases Nat.lt_or_ge m b with z | z
  · exact z
  · have := Nat.div_le_div_right (c := 2 ^ k) z
    omega
section
variable {q : Nat → Bool} {f s : Nat → Nat} {L : Nat → Bool} {w : Nat → Nat}
theorem lo_num_of {mk : Nat → Nat} {ρ : Nat → Bool} (h : lo_Cons L mk ρ) : ∃ m, m < 2 ^ lo_c L 36 ∧ ∀ i, i < 36 → lo_lay L m i = ρ i := by
  obtain ⟨m, hm, hb⟩ := lo_enc L ρ 36
  refine ⟨m, hm, fun i hi => ?_⟩
  unfold lo_lay
  cases hL : L i
  · cases hr : ρ i
    · rfl
    · have := (h i hi).1 hr
      rw [hL] at this
      exact absurd this (by decide)
  · rw [Bool.true_and]; exact hb i hi hL
theorem lo_lay_c {mk : Nat → Nat} {b : Nat} (h1 : ∀ i, i < 36 → L i = true → mk i = 11 → b.testBit (lo_c L i) = false) (h2 : ∀ i, i < 36 → L i = true → mk i = 12 → b.testBit (lo_c L i) = true) : lo_Cons L mk (lo_lay L b) := by
  intro i hi
  refine ⟨fun h => ?_, fun hL => ⟨fun z => ?_, fun z => ?_⟩⟩
  · unfold lo_lay at h
    rw [Bool.and_eq_true] at h
    exact h.1
  · unfold lo_lay
    rw [hL, Bool.true_and]; exact h1 i hi hL z
  · unfold lo_lay
    rw [hL, Bool.true_and]; exact h2 i hi hL z
def lo_Hm (L q : Nat → Bool) (f s : Nat → Nat) (m : Nat) : Prop := lo_Ht q f s (lo_lay L m)
def lo_pm (L : Nat → Bool) (w : Nat → Nat) (m : Nat) : Nat := lo_pr L w (lo_lay L m) 36
/-- the marks once the rows from i on are decided -/
def lo_mf (L : Nat → Bool) (w : Nat → Nat) (b i : Nat) : Nat → Nat := fun j => if j < i then w j else if b.testBit (lo_c L j) = true then 12 else 11
theorem lo_gs_eq {mk : Nat → Nat} {b : Nat} {g : Int64} (hF : lo_F f s q) (hB : lo_bst (lo_Hm L q f s) (lo_pm L w) (2 ^ lo_c L 36) b) (hc : lo_Cons L mk (lo_lay L b)) (hg : lo_gs L q w mk f s g) : g = lN (lo_pm L w b) := by
  rcases hg with ⟨_, hn⟩ | ⟨ρ, e, h1, h2, h3⟩
  · exact absurd hB.2.1 (hn _ hc)
  · obtain ⟨m, hm, hl⟩ := lo_num_of h1
    have a := h3 _ hc hB.2.1
    have b1 := hB.2.2.1 m hm ((lo_Ht_loc hF _ _ hl).mpr h2)
    have e2 : lo_pm L w m = lo_pr L w ρ 36 := lo_pr_eq hl
    rw [e]
    apply congrArg
    rw [e2] at b1
    exact Nat.le_antisymm b1 a
end
section
variable {ro am de ex : Int32} {sh : Int64} {li wk fv sv ki so va re vr tu dr sw ge : Nat → Int32} {ga : Nat → Int64}
variable {q : Nat → Bool} {f s : Nat → Nat} {L : Nat → Bool} {w : Nat → Nat}
theorem lx_heavy (hq : lo_Q fv sv q f s) (hV : lo_V L w li) (hL10 : lo_c L 36 ≤ 10) (hro : ro = nI (lo_c L 36)) {b : Nat} (hB : lo_bst (lo_Hm L q f s) (lo_pm L w) (2 ^ lo_c L 36) b) {post : Int32 → SX → Prop} (h : ∀ wk', post (nI b) (ro, am, de, sh, ex, li, wk', fv, sv, ki, so, va, re, vr, tu, dr, sw, ga, ge)) : wpX_heaviest post (ro, am, de, sh, ex, li, wk, fv, sv, ki, so, va, re, vr, tu, dr, sw, ga, ge) := by
  have hF : lo_F f s q := fun r hr z => by
    obtain ⟨_, _, hf, hs⟩ := (hq r hr).1 z
    exact ⟨hf, hs⟩
  have hW := lo_V_W hV
  have hpb : lo_pm L w b < 2 ^ 63 := by
    have a1 := lo_pr_le (ρ := lo_lay L b) hW 36 (Nat.le_refl _)
    have a2 := lo_10 hL10
    unfold lo_pm
    omega
  have key : ∀ i, i ≤ 36 → ∀ (num : Nat) (wk' : Nat → Int32), (∀ t, num.testBit t = (decide (lo_c L i ≤ t) && b.testBit t)) → lo_VM L (lo_mf L w b i) wk' → wX_heaviest_29 post (lN (lo_pm L w b)) ro am de sh ex (i + 1) (nI num) (nI (lo_c L i)) (nI i + (-1)) li (wk') fv sv ki so va re vr tu dr sw ga ge := by
    intro i
    induction i with
    | zero =>
      intro _ num wk' hn hVM
      have e : num = b := Nat.eq_of_testBit_eq (fun t => by rw [hn t, show decide (lo_c L 0 ≤ t) = true from decide_eq_true (Nat.zero_le t), Bool.true_and])
      rw [e]
      exact br_t (by decide) (h wk')
    | succ i ih =>
      intro hi num wk' hn hVM
      have hi36 : i < 36 := by omega
      have hii : vp_in (nI i) 36 := vp_in_nI hi36 (by decide)
      have next := ih (by omega)
      rw [pk_m1]
      refine br_f (nI_pos (by omega)) ⟨hii, ?_⟩
      rw [nI_clamp (show i < 2 ^ 31 by omega)]
      have mfe : ∀ j, j ≠ i → lo_mf L w b (i + 1) j = lo_mf L w b i j := by
        intro j ne
        unfold lo_mf
        by_cases z : j < i
        · rw [if_pos z, if_pos (by omega)]
        · rw [if_neg z, if_neg (by omega)]
      cases hL : L i
      · have ec : lo_c L (i + 1) = lo_c L i := by show lo_c L i + (L i).toNat = _; rw [hL]; rfl
        rw [ec] at hn ⊢
        rw [(hV i hi36).2 hL]
        refine br_t (by decide) (nm_e (next num wk' hn (fun j hj => ⟨fun hj' => ?_, (hVM j hj).2⟩)))
        have ne : j ≠ i := fun z => by rw [z, hL] at hj'; exact absurd hj' (by decide)
        rw [← mfe j ne]
        exact (hVM j hj).1 hj'
      · have ec : lo_c L (i + 1) = lo_c L i + 1 := by show lo_c L i + (L i).toNat = _; rw [hL]; rfl
        have hci : lo_c L i ≤ 10 := Nat.le_trans (lo_c_mono L (by omega)) hL10
        rw [ec] at hn ⊢
        rw [((hV i hi36).1 hL).1]
        have hwi := ((hV i hi36).1 hL).2
        have mf11 : ∀ j, j < 36 → L j = true → (lo_wu (lo_mf L w b (i + 1)) i 11 j = 11 ↔ j = i ∨ (i < j ∧ b.testBit (lo_c L j) = false)) ∧ (lo_wu (lo_mf L w b (i + 1)) i 11 j = 12 ↔ i < j ∧ b.testBit (lo_c L j) = true) := by
          intro j hj hj'
          have hwj := hW j hj hj'
          by_cases ne : j = i
          · subst ne
            rw [lo_wu_s]
            exact ⟨⟨fun _ => Or.inl rfl, fun _ => rfl⟩, ⟨fun z => absurd z (by decide), fun z => absurd z.1 (by omega)⟩⟩
          · rw [lo_wu_n ne]
            unfold lo_mf
            by_cases z : j < i + 1
            · rw [if_pos z]
              exact ⟨⟨fun y => by omega, fun y => by omega⟩, ⟨fun y => by omega, fun y => by omega⟩⟩
            · rw [if_neg z]
              cases hb : b.testBit (lo_c L j)
              · exact ⟨⟨fun _ => Or.inr ⟨by omega, rfl⟩, fun _ => rfl⟩, ⟨fun y => absurd y (by decide), fun y => absurd y.2 (by decide)⟩⟩
              · exact ⟨⟨fun y => absurd y (by decide), fun y => y.elim (fun y => absurd y ne) (fun y => absurd y.2 (by decide))⟩, ⟨fun _ => ⟨by omega, rfl⟩, fun _ => rfl⟩⟩
        have hM' : lo_Mk L w (lo_wu (lo_mf L w b (i + 1)) i 11) := by
          intro j hj hj'
          refine ⟨hW j hj hj', ?_⟩
          by_cases ne : j = i
          · subst ne; rw [lo_wu_s]; exact Or.inr (Or.inl rfl)
          · rw [lo_wu_n ne]
            unfold lo_mf
            by_cases z : j < i + 1
            · rw [if_pos z]; exact Or.inl rfl
            · rw [if_neg z]
              cases b.testBit (lo_c L j)
              · exact Or.inr (Or.inl rfl)
              · exact Or.inr (Or.inr rfl)
        have hVM' : lo_VM L (lo_wu (lo_mf L w b (i + 1)) i 11) (upd wk' i 11) := by
          intro j hj
          by_cases ne : j = i
          · subst ne
            rw [lo_wu_s, pk_us]
            exact ⟨fun _ => rfl, fun z => by rw [hL] at z; exact absurd z (by decide)⟩
          · rw [lo_wu_n ne, pk_un ne]
            exact hVM j hj
        refine br_f (nI_pos (by omega)) (nm_r (pk_m1 _) ⟨hii, nm_e (lx_gw hq hV hL10 hM' hVM' (fun g hg => ?_))⟩)
        cases hb : b.testBit (lo_c L i)
        · have hg' := lo_gs_eq hF hB (lo_lay_c (fun j hj hj' z => by
            rcases ((mf11 j hj hj').1).mp z with y | y
            · rw [y]; exact hb
            · exact y.2) (fun j hj hj' z => (((mf11 j hj hj').2).mp z).2)) hg
          refine br_t hg' (nm_e (next num _ (fun t => ?_) (fun j hj => ?_)))
          · rw [hn t]
            by_cases z : t = lo_c L i
            · rw [z, hb, Bool.and_false, Bool.and_false]
            · by_cases y : lo_c L i ≤ t
              · rw [decide_eq_true y, decide_eq_true (by omega)]
              · rw [decide_eq_false y, decide_eq_false (by omega)]
          · by_cases ne : j = i
            · subst ne
              rw [pk_us]
              refine ⟨fun _ => ?_, fun z => by rw [hL] at z; exact absurd z (by decide)⟩
              unfold lo_mf
              rw [if_neg (by omega), hb]
              rfl
            · rw [pk_un ne, ← mfe j ne]
              exact hVM j hj
        · have hg' : ¬ g = lN (lo_pm L w b) := by
            intro e
            rcases hg with ⟨e1, _⟩ | ⟨ρ, e1, h1, h2, h3⟩
            · rw [e1] at e
              have := (lb_lm1 hpb).2
              rw [← e] at this
              exact this (Int64.le_refl _)
            · obtain ⟨m, hm, hl⟩ := lo_num_of h1
              have a1 := lo_pr_le (ρ := ρ) hW 36 (Nat.le_refl _)
              have a2 := lo_10 hL10
              have e2 : lo_pr L w ρ 36 = lo_pm L w b := (pk_lEQ (by omega) hpb).mp (e1.symm.trans e)
              have e3 : lo_pm L w m = lo_pr L w ρ 36 := lo_pr_eq hl
              have bit : ∀ j, j < 36 → L j = true → m.testBit (lo_c L j) = ρ j := by
                intro j hj hj'
                have := hl j hj
                unfold lo_lay at this
                rw [hj', Bool.true_and] at this
                exact this
              have lt : m < b := by
                refine lo_lt_bits (k := lo_c L i) ?_ hb (fun t ht => ?_)
                · rw [bit i hi36 hL]
                  exact ((h1 i hi36).2 hL).1 (((mf11 i hi36 hL).1).mpr (Or.inl rfl))
                · rcases Nat.lt_or_ge t (lo_c L 36) with y | y
                  · obtain ⟨j, j1, j2, j3, j4⟩ := lo_dec (L := L) (b := t) (i := i + 1) 36 (by omega) y
                    rw [← j4, bit j j2 j3]
                    cases hbj : b.testBit (lo_c L j)
                    · exact ((h1 j j2).2 j3).1 (((mf11 j j2 j3).1).mpr (Or.inr ⟨by omega, hbj⟩))
                    · exact ((h1 j j2).2 j3).2 (((mf11 j j2 j3).2).mpr ⟨by omega, hbj⟩)
                  · have p1 : 2 ^ lo_c L 36 ≤ 2 ^ t := Nat.pow_le_pow_right (by decide) y
                    rw [Nat.testBit_lt_two_pow (by omega), Nat.testBit_lt_two_pow (Nat.lt_of_lt_of_le hB.1 p1)]
              have := hB.2.2.2 m lt ((lo_Ht_loc hF _ _ hl).mpr h2)
              omega
          refine br_f hg' ⟨hii, nm_e (nm_r (lb_set (by omega)) (nm_e (next _ _ (fun t => ?_) (fun j hj => ?_))))⟩
          · rw [Nat.testBit_or, hn t, Nat.testBit_two_pow]
            by_cases z : lo_c L i = t
            · rw [← z, hb, decide_eq_true rfl, decide_eq_true (Nat.le_refl _), Bool.or_true]
              rfl
            · rw [decide_eq_false z, Bool.or_false]
              by_cases y : lo_c L i ≤ t
              · rw [decide_eq_true y, decide_eq_true (by omega)]
              · rw [decide_eq_false y, decide_eq_false (by omega)]
          · by_cases ne : j = i
            · subst ne
              rw [pk_us]
              refine ⟨fun _ => ?_, fun z => by rw [hL] at z; exact absurd z (by decide)⟩
              unfold lo_mf
              rw [if_neg (by omega), hb]
              rfl
            · rw [pk_un ne, pk_un ne, ← mfe j ne]
              exact hVM j hj
  have hMw : lo_Mk L w w := fun i hi hL => ⟨hW i hi hL, Or.inl rfl⟩
  unfold wpX_heaviest
  dsimp only
  refine lx_take (fun wk' hwk => ?_)
  have hVM : lo_VM L w wk' := fun i hi => by
    rw [hwk i hi]
    exact ⟨fun z => ((hV i hi).1 z).1, (hV i hi).2⟩
  refine lx_gw hq hV hL10 hMw hVM (fun g hg => ?_)
  have hg' := lo_gs_eq hF hB (lo_lay_c (fun j hj hj' z => by have := hW j hj hj'; omega) (fun j hj hj' z => by have := hW j hj hj'; omega)) hg
  rw [hg', hro]
  refine br_t ((pk_lLE (a := 0) (by decide) hpb).mpr (Nat.zero_le _)) ⟨37, ?_⟩
  have k := key 36 (Nat.le_refl _) 0 wk' (fun t => ?_) (fun i hi => ?_)
  · rw [hro] at k
    exact k
  · rw [Nat.zero_testBit]
    by_cases z : lo_c L 36 ≤ t
    · have p1 : 2 ^ lo_c L 36 ≤ 2 ^ t := Nat.pow_le_pow_right (by decide) z
      rw [Nat.testBit_lt_two_pow (Nat.lt_of_lt_of_le hB.1 p1), Bool.and_false]
    · rw [decide_eq_false z, Bool.false_and]
  · have e : lo_mf L w b 36 i = w i := if_pos hi
    rw [e]
    exact hVM i hi
theorem lx_heavy0 (hq : lo_Q fv sv q f s) (hV : lo_V L w li) (hL10 : lo_c L 36 ≤ 10) (hN : ∀ m, m < 2 ^ lo_c L 36 → ¬ lo_Hm L q f s m) {post : Int32 → SX → Prop} (h : ∀ wk', post (-1) (ro, am, de, sh, ex, li, wk', fv, sv, ki, so, va, re, vr, tu, dr, sw, ga, ge)) : wpX_heaviest post (ro, am, de, sh, ex, li, wk, fv, sv, ki, so, va, re, vr, tu, dr, sw, ga, ge) := by
  have hF : lo_F f s q := fun r hr z => by
    obtain ⟨_, _, hf, hs⟩ := (hq r hr).1 z
    exact ⟨hf, hs⟩
  have hMw : lo_Mk L w w := fun i hi hL => ⟨lo_V_W hV i hi hL, Or.inl rfl⟩
  unfold wpX_heaviest
  dsimp only
  refine lx_take (fun wk' hwk => ?_)
  have hVM : lo_VM L w wk' := fun i hi => by
    rw [hwk i hi]
    exact ⟨fun z => ((hV i hi).1 z).1, (hV i hi).2⟩
  refine lx_gw hq hV hL10 hMw hVM (fun g hg => ?_)
  rcases hg with ⟨e, _⟩ | ⟨ρ, _, h1, h2, _⟩
  · rw [e]
    exact br_f (by decide) (h wk')
  · obtain ⟨m, hm, hl⟩ := lo_num_of h1
    exact absurd ((lo_Ht_loc hF _ _ hl).mpr h2) (hN m hm)
end
section
variable {yl yo yt ya yf ys : Nat → Int32}
variable {q : Nat → Bool} {f s : Nat → Nat} {L : Nat → Bool} {w : Nat → Nat}
theorem ly_heavy (hL : lo_YL L w yl yo) (hQ : lo_YQ q f s ya yf ys) (h10 : lo_c L 36 ≤ 10) {post : Int32 → SY → Prop} (h0 : (∀ m, m < 2 ^ lo_c L 36 → ¬ lo_Hm L q f s m) → ∀ yt', post (-1) (yl, yo, yt', ya, yf, ys)) (h1 : ∀ b, lo_bst (lo_Hm L q f s) (lo_pm L w) (2 ^ lo_c L 36) b → ∀ yt', post (nI b) (yl, yo, yt', ya, yf, ys)) : wpY_heaviest post (yl, yo, yt, ya, yf, ys) := by
  have h2 := lo_1024 h10
  have hW : lo_W L w := fun i hi hL' => ((hL i hi).1 hL').2.2
  have hbd : ∀ ρ, lo_pr L w ρ 36 < 2 ^ 63 := by
    intro ρ
    have a := lo_pr_le (ρ := ρ) hW 36 (Nat.le_refl _)
    have b := lo_10 h10
    omega
  have key : ∀ k m (x1 : Int32) (x2 : Int64) (yt' : Nat → Int32), m + k = 2 ^ lo_c L 36 → ((x1 = -1 ∧ x2 = -1 ∧ ∀ y, y < m → ¬ lo_Hm L q f s y) ∨ (∃ b, x1 = nI b ∧ x2 = lN (lo_pm L w b) ∧ lo_bst (lo_Hm L q f s) (lo_pm L w) m b)) → wY_heaviest_17 post (nI (2 ^ lo_c L 36)) (k + 1) x1 x2 (nI m) yl yo (yt') ya yf ys := by
    intro k
    induction k with
    | zero =>
      intro m x1 x2 yt' hm hx
      have e : m = 2 ^ lo_c L 36 := by omega
      rw [← e]
      rw [← e] at h0 h1
      refine br_t (nI_le (Nat.le_refl _) (by omega)) ?_
      rcases hx with ⟨e1, _, hx⟩ | ⟨b, e1, _, hx⟩
      · rw [e1]; exact h0 hx yt'
      · rw [e1]; exact h1 b hx yt'
    | succ k ih =>
      intro m x1 x2 yt' hm hx
      have next := fun x1 x2 yt' => ih (m + 1) x1 x2 yt' (by omega)
      refine br_f (nI_ge (by omega) (by omega)) (ly_lay hL h10 (by omega) (fun yt2 hT => ?_))
      refine ly_holds hQ hT (fun z => br_f (by decide) (ly_product hL hT ?_)) (fun z => br_t rfl (nm_r (nI_1 m) (next x1 x2 yt2 ?_)))
      · rcases hx with ⟨e1, e2, hx⟩ | ⟨b, e1, e2, hx⟩
        · rw [e2]
          exact br_f (lb_lm1 (hbd _)).2 (nm_r (nI_1 m) (next _ _ yt2 (Or.inr ⟨m, rfl, rfl, lo_bst_0 hx z⟩)))
        · rw [e2]
          by_cases y : lo_pm L w m ≤ lo_pm L w b
          · exact br_t ((pk_lLE (hbd _) (hbd _)).mpr y) (nm_r (nI_1 m) (next _ _ yt2 (Or.inr ⟨b, e1, rfl, lo_bst_k hx (fun _ => y)⟩)))
          · exact br_f (fun y' => y ((pk_lLE (hbd _) (hbd _)).mp y')) (nm_r (nI_1 m) (next _ _ yt2 (Or.inr ⟨m, rfl, rfl, lo_bst_n hx z (by omega)⟩)))
      · rcases hx with ⟨e1, e2, hx⟩ | ⟨b, e1, e2, hx⟩
        · exact Or.inl ⟨e1, e2, lt_s hx z⟩
        · exact Or.inr ⟨b, e1, e2, lo_bst_k hx (fun y => absurd y z)⟩
  unfold wpY_heaviest
  dsimp only
  exact ly_rows hL (nm_r (lb_pw _ h10) ⟨2 ^ lo_c L 36 + 1, key _ 0 (-1) (-1) yt (by omega) (Or.inl ⟨rfl, rfl, lt_0⟩)⟩)
end
end
section
/-! stores of both sides, and the calls' answers -/
theorem lo_st_V {L : Nat → Bool} {w : Nat → Nat} {li : Nat → Int32} (h : lo_V L w li) {j z : Nat} (hz : z ≤ 10) : lo_V (lo_st L j true) (lo_wu w j z) (upd li j (nI z)) := by
  intro i hi
  by_cases e : i = j
  · subst e
    rw [pk_us, lo_wu_s, lo_st_s]
    exact ⟨fun _ => ⟨rfl, hz⟩, fun y => absurd y (by decide)⟩
  · rw [pk_un e, lo_wu_n e, lo_st_n e]
    exact h i hi
theorem lo_st_V0 {L : Nat → Bool} {w : Nat → Nat} {li : Nat → Int32} (h : lo_V L w li) {j : Nat} : lo_V (lo_st L j false) w (upd li j (-1)) := by
  intro i hi
  by_cases e : i = j
  · subst e
    rw [pk_us, lo_st_s]
    exact ⟨fun y => absurd y (by decide), fun _ => rfl⟩
  · rw [pk_un e, lo_st_n e]
    exact h i hi
theorem lo_st_YL {L : Nat → Bool} {w : Nat → Nat} {yl yo : Nat → Int32} (h : lo_YL L w yl yo) {j z : Nat} (hz : z ≤ 10) : lo_YL (lo_st L j true) (lo_wu w j z) (upd yl j 1) (upd yo j (nI z)) := by
  intro i hi
  by_cases e : i = j
  · subst e
    rw [pk_us, pk_us, lo_wu_s, lo_st_s]
    exact ⟨fun _ => ⟨rfl, rfl, hz⟩, fun y => absurd y (by decide)⟩
  · rw [pk_un e, pk_un e, lo_wu_n e, lo_st_n e]
    exact h i hi
theorem lo_st_YL0 {L : Nat → Bool} {w : Nat → Nat} {yl yo : Nat → Int32} (h : lo_YL L w yl yo) {j : Nat} : lo_YL (lo_st L j false) w (upd yl j 0) yo := by
  intro i hi
  by_cases e : i = j
  · subst e
    rw [pk_us, lo_st_s]
    exact ⟨fun y => absurd y (by decide), fun _ => rfl⟩
  · rw [pk_un e, lo_st_n e]
    exact h i hi
theorem lo_st_c1 {L : Nat → Bool} {j n : Nat} (hj : j < n) (h : L j = false) : lo_c (lo_st L j true) n = lo_c L n + 1 := lo_c_ins h lo_st_s hj (fun i _ ne => (lo_st_n ne).symm)
theorem lo_st_c0 {L : Nat → Bool} {j n : Nat} (hj : j < n) (h : L j = true) : lo_c L n = lo_c (lo_st L j false) n + 1 := lo_c_ins lo_st_s h hj (fun i _ ne => lo_st_n ne)
theorem lo_st_id {L : Nat → Bool} {j n : Nat} (h : L j = true) : lo_c (lo_st L j true) n = lo_c L n := lo_c_eq (fun i _ => by
  by_cases e : i = j
  · subst e; rw [lo_st_s, h]
  · rw [lo_st_n e])
theorem lo_st_Q {q : Nat → Bool} {f s : Nat → Nat} {fv sv : Nat → Int32} (h : lo_Q fv sv q f s) {r a b : Nat} (ha : a < 3) (hb : b < 3) : lo_Q (upd fv r (nI a)) (upd sv r (nI b)) (lo_st q r true) (lo_wu f r a) (lo_wu s r b) := by
  intro i hi
  by_cases e : i = r
  · subst e
    rw [pk_us, pk_us, lo_wu_s, lo_wu_s, lo_st_s]
    exact ⟨fun _ => ⟨rfl, rfl, ha, hb⟩, fun y => absurd y (by decide)⟩
  · rw [pk_un e, pk_un e, lo_wu_n e, lo_wu_n e, lo_st_n e]
    exact h i hi
theorem lo_st_YQ {q : Nat → Bool} {f s : Nat → Nat} {ya yf ys : Nat → Int32} (h : lo_YQ q f s ya yf ys) {r a b : Nat} (ha : a < 3) (hb : b < 3) : lo_YQ (lo_st q r true) (lo_wu f r a) (lo_wu s r b) (upd ya r 1) (upd yf r (nI a)) (upd ys r (nI b)) := by
  intro i hi
  by_cases e : i = r
  · subst e
    rw [pk_us, pk_us, pk_us, lo_wu_s, lo_wu_s, lo_st_s]
    exact ⟨fun _ => ⟨rfl, rfl, rfl, ha, hb⟩, fun y => absurd y (by decide)⟩
  · rw [pk_un e, pk_un e, pk_un e, lo_wu_n e, lo_wu_n e, lo_st_n e]
    exact h i hi
section
variable {ro am de ex : Int32} {sh : Int64} {li wk fv sv ki so va re vr tu dr sw ge : Nat → Int32} {ga : Nat → Int64}
variable {q : Nat → Bool} {f s : Nat → Nat} {L : Nat → Bool} {w : Nat → Nat}
theorem lx_clear {post : SX → Prop} (h : ∀ fv' sv' : Nat → Int32, (∀ r, r < 4 → fv' r = -1 ∧ sv' r = -1) → post (ro, 0, de, sh, ex, li, wk, fv', sv', ki, so, va, re, vr, tu, dr, sw, ga, ge)) : wpX_clearQuery post (ro, am, de, sh, ex, li, wk, fv, sv, ki, so, va, re, vr, tu, dr, sw, ga, ge) := by
  have key : ∀ k r (fv' sv' : Nat → Int32), r + k = 4 → (∀ y, y < r → fv' y = -1 ∧ sv' y = -1) → wX_clearQuery_2 post ro am de sh ex (k + 1) (nI r) li wk (fv') (sv') ki so va re vr tu dr sw ga ge := by
    intro k
    induction k with
    | zero =>
      intro r fv' sv' hr hb
      have e : r = 4 := by omega
      subst e
      exact br_t (by decide) (h fv' sv' hb)
    | succ k ih =>
      intro r fv' sv' hr hb
      have hr4 : r < 4 := by omega
      have hri : vp_in (nI r) 4 := vp_in_nI hr4 (by decide)
      refine br_f (nI_ge (b := 4) hr4 (by decide)) ?_
      rw [nI_clamp (show r < 2 ^ 31 by omega)]
      refine ⟨hri, nm_e ⟨hri, nm_e (nm_r (nI_1 r) (ih (r + 1) _ _ (by omega) (lt_s (fun y hy => ?_) ⟨pk_us, pk_us⟩)))⟩⟩
      rw [pk_un (by omega), pk_un (by omega)]
      exact hb y hy
  exact ⟨5, key 4 0 fv sv rfl lt_0⟩
theorem lx_init {post : SX → Prop} (h : ∀ li' fv' sv' : Nat → Int32, (∀ i, i < 36 → li' i = -1) → (∀ r, r < 4 → fv' r = -1 ∧ sv' r = -1) → post (ro, 0, de, sh, ex, li', wk, fv', sv', ki, so, va, re, vr, tu, dr, sw, ga, ge)) : ∀ k i (li' : Nat → Int32), i + k = 36 → (∀ j, j < i → li' j = -1) → wX_init_116 post ro am de sh ex (k + 1) (nI i) (li') wk fv sv ki so va re vr tu dr sw ga ge := by
  intro k
  induction k with
  | zero =>
    intro i li' hi hb
    have e : i = 36 := by omega
    subst e
    exact br_t (by decide) (lx_clear (fun fv' sv' hc => h li' fv' sv' hb hc))
  | succ k ih =>
    intro i li' hi hb
    have hi36 : i < 36 := by omega
    have hii : vp_in (nI i) 36 := vp_in_nI hi36 (by decide)
    refine br_f (nI_ge (b := 36) hi36 (by decide)) ?_
    rw [nI_clamp (show i < 2 ^ 31 by omega)]
    refine ⟨hii, nm_e (nm_r (nI_1 i) (ih (i + 1) _ (by omega) (lt_s (fun j hj => ?_) pk_us)))⟩
    rw [pk_un (by omega)]
    exact hb j hj
theorem lx_isl (hV : lo_V L w li) {r a b : Nat} (hr : r < 4) (ha : a < 3) (hb : b < 3) (hX : ∀ post : Int32 → Prop, post 1 → wpX_isRow post (nI r) (nI a) (nI b)) {post : Int32 → Prop} (h1 : L (9 * r + 3 * a + b) = true → post 1) (h0 : L (9 * r + 3 * a + b) = false → post 0) : wpX_isListed post (ro, am, de, sh, ex, li, wk, fv, sv, ki, so, va, re, vr, tu, dr, sw, ga, ge) (nI r) (nI a) (nI b) := by
  have hj : 9 * r + 3 * a + b < 36 := by omega
  unfold wpX_isListed
  dsimp only
  refine hX _ (br_f (by decide) ?_)
  rw [lb_row, nI_clamp (show 9 * r + 3 * a + b < 2 ^ 31 by omega)]
  refine ⟨vp_in_nI hj (by decide), ?_⟩
  cases hL : L (9 * r + 3 * a + b)
  · rw [(hV _ hj).2 hL]
    exact br_t (by decide) (h0 hL)
  · obtain ⟨e, hw⟩ := (hV _ hj).1 hL
    rw [e]
    exact br_f (nI_pos (by omega)) (h1 hL)
theorem lx_isl0 {p0 p1 p2 : Int32} (hX : ∀ post : Int32 → Prop, post 0 → wpX_isRow post p0 p1 p2) {post : Int32 → Prop} (h0 : post 0) : wpX_isListed post (ro, am, de, sh, ex, li, wk, fv, sv, ki, so, va, re, vr, tu, dr, sw, ga, ge) p0 p1 p2 := by
  unfold wpX_isListed
  dsimp only
  exact hX _ (br_t rfl h0)
theorem lx_weight (hq : lo_Q fv sv q f s) (hV : lo_V L w li) (hL10 : lo_c L 36 ≤ 10) (hro : ro = nI (lo_c L 36)) {post : Int64 → SX → Prop} (h : ∀ (wk' : Nat → Int32) (de' : Int32) (sh' : Int64) (ex' : Int32) (G : lm_FR), post (lN (lo_Y L w (lo_Ht q f s))) (ro, am, de', sh', ex', li, wk', fv, sv, G)) : wpX_weight post (ro, am, de, sh, ex, li, wk, fv, sv, ki, so, va, re, vr, tu, dr, sw, ga, ge) := by
  have hF : lo_F f s q := fun r hr z => by
    obtain ⟨_, _, hf, hs⟩ := (hq r hr).1 z
    exact ⟨hf, hs⟩
  unfold wpX_weight
  dsimp only
  refine lx_take (fun wk' hwk => ?_)
  have hV' : lo_V L w wk' := fun i hi => by rw [hwk i hi]; exact hV i hi
  refine lx_eval hq hV' hL10 hro (fun T de' sh' ex' G hT => ?_)
  obtain ⟨ki2, so2, va2, re2, vr2, tu2, dr2, sw2, ga2, ge2⟩ := G
  have e : T = lo_Y L w (lo_Ht q f s) := lo_Tot_u hT (lo_Tot_Y (lo_Ht_loc hF))
  rw [e]
  exact h _ _ _ _ (ki2, so2, va2, re2, vr2, tu2, dr2, sw2, ga2, ge2)
theorem lx_weightWith (hq : lo_Q fv sv q f s) (hV : lo_V L w li) (hL10 : lo_c L 36 ≤ 10) (hro : ro = nI (lo_c L 36)) {r a b : Nat} (hr : r < 4) (ha : a < 3) (hb : b < 3) (hX : ∀ post : Int32 → Prop, post 1 → wpX_isRow post (nI r) (nI a) (nI b)) {post : Int64 → SX → Prop} (h : ∀ (wk' : Nat → Int32) (de' : Int32) (sh' : Int64) (ex' : Int32) (G : lm_FR), post (lN (lo_Y L w (fun ρ => ρ (9 * r + 3 * a + b) = true ∧ lo_Ht q f s ρ))) (ro, am, de', sh', ex', li, wk', fv, sv, G)) : wpX_weightWith post (ro, am, de, sh, ex, li, wk, fv, sv, ki, so, va, re, vr, tu, dr, sw, ga, ge) (nI r) (nI a) (nI b) := by
  have hF : lo_F f s q := fun r hr z => by
    obtain ⟨_, _, hf, hs⟩ := (hq r hr).1 z
    exact ⟨hf, hs⟩
  have hj : 9 * r + 3 * a + b < 36 := by omega
  have hji : vp_in (nI (9 * r + 3 * a + b)) 36 := vp_in_nI hj (by decide)
  unfold wpX_weightWith
  dsimp only
  refine lx_isl hV hr ha hb hX (fun hL => br_f (by decide) (nm_r (lb_row r a b) (lx_take (fun wk' hwk => ⟨hji, ?_⟩)))) (fun hL => br_t rfl ?_)
  · rw [nI_clamp (show 9 * r + 3 * a + b < 2 ^ 31 by omega)]
    obtain ⟨el, hw⟩ := (hV _ hj).1 hL
    have hV' : lo_V L w wk' := fun i hi => by rw [hwk i hi]; exact hV i hi
    refine nm_e (lx_eval hq (lo_V_u hV' hL (show 10 ≤ 10 by omega)) hL10 hro (fun T de' sh' ex' G hT => ?_))
    obtain ⟨ki2, so2, va2, re2, vr2, tu2, dr2, sw2, ga2, ge2⟩ := G
    have tl := Nat.le_trans (lo_Tot_le (lo_V_W (lo_V_u hV' hL (show 10 ≤ 10 by omega))) hT) (lo_10 hL10)
    have e := lo_Tot_pin (b := true) (lo_V_W hV) hj hL (Or.inl ⟨rfl, rfl, rfl⟩) hT (lo_Tot_Y (lo_Loc_and hj (lo_Ht_loc hF)))
    refine ⟨by decide, hji, ?_⟩
    have e2 : lN T / 10 * (li (9 * r + 3 * a + b)).toInt64 = lN (lo_Y L w (fun ρ => ρ (9 * r + 3 * a + b) = true ∧ lo_Ht q f s ρ)) := by
      rw [el, nI_l (show w (9 * r + 3 * a + b) < 2 ^ 31 by omega), show lN T / 10 = lN (T / 10) from pk_lDiv (b := 10) (by omega) (by decide) (by decide), lN_mul, e]
    rw [e2]
    exact h _ _ _ _ (ki2, so2, va2, re2, vr2, tu2, dr2, sw2, ga2, ge2)
  · have k := h wk de sh ex (ki, so, va, re, vr, tu, dr, sw, ga, ge)
    rw [lo_Y_t0 hL] at k
    exact k
theorem lx_weightWithout (hq : lo_Q fv sv q f s) (hV : lo_V L w li) (hL10 : lo_c L 36 ≤ 10) (hro : ro = nI (lo_c L 36)) {r a b : Nat} (hr : r < 4) (ha : a < 3) (hb : b < 3) (hX : ∀ post : Int32 → Prop, post 1 → wpX_isRow post (nI r) (nI a) (nI b)) {post : Int64 → SX → Prop} (h : ∀ (wk' : Nat → Int32) (de' : Int32) (sh' : Int64) (ex' : Int32) (G : lm_FR), post (lN (lo_Y L w (fun ρ => ρ (9 * r + 3 * a + b) = false ∧ lo_Ht q f s ρ))) (ro, am, de', sh', ex', li, wk', fv, sv, G)) : wpX_weightWithout post (ro, am, de, sh, ex, li, wk, fv, sv, ki, so, va, re, vr, tu, dr, sw, ga, ge) (nI r) (nI a) (nI b) := by
  have hF : lo_F f s q := fun r hr z => by
    obtain ⟨_, _, hf, hs⟩ := (hq r hr).1 z
    exact ⟨hf, hs⟩
  have hj : 9 * r + 3 * a + b < 36 := by omega
  have hji : vp_in (nI (9 * r + 3 * a + b)) 36 := vp_in_nI hj (by decide)
  unfold wpX_weightWithout
  dsimp only
  refine lx_isl hV hr ha hb hX (fun hL => br_f (by decide) (nm_r (lb_row r a b) (lx_take (fun wk' hwk => ⟨hji, ?_⟩)))) (fun hL => br_t rfl (lx_weight hq hV hL10 hro (fun wk' de' sh' ex' G => ?_)))
  · rw [nI_clamp (show 9 * r + 3 * a + b < 2 ^ 31 by omega)]
    obtain ⟨el, hw⟩ := (hV _ hj).1 hL
    have hV' : lo_V L w wk' := fun i hi => by rw [hwk i hi]; exact hV i hi
    refine nm_e (lx_eval hq (lo_V_u hV' hL (show 0 ≤ 10 by omega)) hL10 hro (fun T de' sh' ex' G hT => ?_))
    obtain ⟨ki2, so2, va2, re2, vr2, tu2, dr2, sw2, ga2, ge2⟩ := G
    have tl := Nat.le_trans (lo_Tot_le (lo_V_W (lo_V_u hV' hL (show 0 ≤ 10 by omega))) hT) (lo_10 hL10)
    have e := lo_Tot_pin (b := false) (lo_V_W hV) hj hL (Or.inr ⟨rfl, rfl, rfl⟩) hT (lo_Tot_Y (lo_Loc_and hj (lo_Ht_loc hF)))
    refine ⟨by decide, hji, ?_⟩
    have e2 : lN T / 10 * ((10 : Int32) - li (9 * r + 3 * a + b)).toInt64 = lN (lo_Y L w (fun ρ => ρ (9 * r + 3 * a + b) = false ∧ lo_Ht q f s ρ)) := by
      rw [el, show (10 : Int32) - nI (w (9 * r + 3 * a + b)) = nI (10 - w (9 * r + 3 * a + b)) from pk_sub (a := 10) hw, nI_l (show 10 - w (9 * r + 3 * a + b) < 2 ^ 31 by omega), show lN T / 10 = lN (T / 10) from pk_lDiv (b := 10) (by omega) (by decide) (by decide), lN_mul, e]
    rw [e2]
    exact h _ _ _ _ (ki2, so2, va2, re2, vr2, tu2, dr2, sw2, ga2, ge2)
  · obtain ⟨ki2, so2, va2, re2, vr2, tu2, dr2, sw2, ga2, ge2⟩ := G
    have k := h wk' de' sh' ex' (ki2, so2, va2, re2, vr2, tu2, dr2, sw2, ga2, ge2)
    rw [lo_Y_f0 hL] at k
    exact k
end
section
variable {yl yo yt ya yf ys : Nat → Int32}
variable {q : Nat → Bool} {f s : Nat → Nat} {L : Nat → Bool} {w : Nat → Nat}
theorem ly_atom47 (hQ : lo_YQ q f s ya yf ys) {post : Int32 → SY → Prop} (h : post (nI (lo_c q 4)) (yl, yo, yt, ya, yf, ys)) : ∀ k r, r + k = 4 → wY_atom_47 post yl yo yt ya yf ys (k + 1) (nI (lo_c q r)) (nI r) := by
  intro k
  induction k with
  | zero =>
    intro r hr
    have e : r = 4 := by omega
    subst e
    exact br_t (by decide) h
  | succ k ih =>
    intro r hr
    have hr4 : r < 4 := by omega
    have next := ih (r + 1) (by omega)
    refine br_f (nI_ge (b := 4) hr4 (by decide)) ⟨vp_in_nI hr4 (by decide), ?_⟩
    rw [nI_clamp (show r < 2 ^ 31 by omega)]
    cases hq : q r
    · rw [(hQ r hr4).2 hq]
      have e : lo_c q (r + 1) = lo_c q r := by show lo_c q r + (q r).toNat = _; rw [hq]; rfl
      rw [e] at next
      exact br_t rfl (nm_r (nI_1 r) next)
    · rw [((hQ r hr4).1 hq).1]
      have e : lo_c q (r + 1) = lo_c q r + 1 := by show lo_c q r + (q r).toNat = _; rw [hq]; rfl
      rw [e] at next
      exact br_f (by decide) (nm_r (nI_1 _) (nm_r (nI_1 r) next))
theorem ly_clear {post : SY → Prop} (h : ∀ ya' : Nat → Int32, (∀ r, r < 4 → ya' r = 0) → post (yl, yo, yt, ya', yf, ys)) : wpY_clearQuery post (yl, yo, yt, ya, yf, ys) := by
  have key : ∀ k r (ya' : Nat → Int32), r + k = 4 → (∀ y, y < r → ya' y = 0) → wY_clearQuery_2 post (k + 1) (nI r) yl yo yt (ya') yf ys := by
    intro k
    induction k with
    | zero =>
      intro r ya' hr hb
      have e : r = 4 := by omega
      subst e
      exact br_t (by decide) (h ya' hb)
    | succ k ih =>
      intro r ya' hr hb
      have hr4 : r < 4 := by omega
      have hri : vp_in (nI r) 4 := vp_in_nI hr4 (by decide)
      refine br_f (nI_ge (b := 4) hr4 (by decide)) ?_
      rw [nI_clamp (show r < 2 ^ 31 by omega)]
      refine ⟨hri, nm_e (nm_r (nI_1 r) (ih (r + 1) _ (by omega) (lt_s (fun y hy => ?_) ?_)))⟩
      · rw [pk_un (by omega)]
        exact hb y hy
      · rw [pk_us]; rfl
  exact ⟨5, key 4 0 ya rfl lt_0⟩
end
end
section
/-! the relation, and what is owed -/
def lo_rel (L : Nat → Bool) (w : Nat → Nat) (q : Nat → Bool) (f s : Nat → Nat) (ro am : Int32) (li fv sv yl yo ya yf ys : Nat → Int32) : Prop := ro = nI (lo_c L 36) ∧ lo_c L 36 ≤ 10 ∧ am = nI (lo_c q 4) ∧ lo_V L w li ∧ lo_Q fv sv q f s ∧ lo_YL L w yl yo ∧ lo_YQ q f s ya yf ys
theorem lo_ff : ¬ false = true := by decide
/-- both sides hold the same rows, weights and atoms -/
def i_Rel (k : Nat) (u : SX) (v : SY) : Prop := ∃ (L : Nat → Bool) (w : Nat → Nat) (q : Nat → Bool) (f s : Nat → Nat), lo_rel L w q f s u.1 u.2.1 u.2.2.2.2.2.1 u.2.2.2.2.2.2.2.1 u.2.2.2.2.2.2.2.2.1 v.1 v.2.1 v.2.2.2.1 v.2.2.2.2.1 v.2.2.2.2.2
theorem i_up {k : Nat} {u : SX} {v : SY} (h : i_Rel k u v) : i_Rel (k + 5) u v := h
theorem i_vc0 : wpX_init (fun u => wpY_init (fun v => i_Rel 0 u v)) := by
  refine ⟨37, lx_init (fun li' fv' sv' hl hc => ?_) 36 0 (fun _ => 0) rfl lt_0⟩
  refine ⟨fun _ => false, fun _ => 0, fun _ => false, fun _ => 0, fun _ => 0, show (0 : Int32) = nI (lo_c (fun _ => false) 36) by decide, by decide, show (0 : Int32) = nI (lo_c (fun _ => false) 4) by decide, ?_, ?_, ?_, ?_⟩
  · exact fun i hi => ⟨fun z => absurd z lo_ff, fun _ => hl i hi⟩
  · exact fun r hr => ⟨fun z => absurd z lo_ff, fun _ => hc r hr⟩
  · exact fun i hi => ⟨fun z => absurd z lo_ff, fun _ => rfl⟩
  · exact fun r hr => ⟨fun z => absurd z lo_ff, fun _ => rfl⟩
theorem i_vc_row {k : Nat} {u : SX} {v : SY} (I : i_Rel k u v) (hk : k + 5 ≤ 2560) (v1 : Int32) (v2 : Int32) (v3 : Int32) (v4 : Int32) : wpX_row (fun r u' => wpY_row (fun r' v' => r' = r ∧ i_Rel (k + 5) u' v') v v1 v2 v3 v4) u v1 v2 v3 v4 := by
  obtain ⟨ro, am, de, sh, ex, li, wk, fv, sv, ki, so, va, re, vr, tu, dr, sw, ga, ge⟩ := u
  obtain ⟨yl, yo, yt, ya, yf, ys⟩ := v
  have I0 := I
  obtain ⟨L, w, q, f, s, hro, h10, ham, hV, hQ, hYL, hYQ⟩ := I
  replace hro : ro = nI (lo_c L 36) := hro
  replace ham : am = nI (lo_c q 4) := ham
  replace hV : lo_V L w li := hV
  replace hQ : lo_Q fv sv q f s := hQ
  replace hYL : lo_YL L w yl yo := hYL
  replace hYQ : lo_YQ q f s ya yf ys := hYQ
  unfold wpX_row wpY_row
  dsimp only
  rcases lo_num v1 v2 v3 with ⟨r, a, b, hr, ha, hb, e1, e2, e3, hX, hY⟩ | ⟨hX, hY⟩
  · subst e1 e2 e3
    have hj : 9 * r + 3 * a + b < 36 := by omega
    have hji : vp_in (nI (9 * r + 3 * a + b)) 36 := vp_in_nI hj (by decide)
    have cj : (nI (9 * r + 3 * a + b)).toNatClampNeg = 9 * r + 3 * a + b := nI_clamp (by omega)
    have nn : ¬ nI (9 * r + 3 * a + b) < 0 := nI_pos (by omega)
    refine hX _ (br_f (by decide) ?_)
    by_cases z1 : v4 < 0
    · exact br_t z1 (hY _ (br_f nn (br_t z1 ⟨rfl, I0⟩)))
    · refine br_f z1 ?_
      by_cases z2 : v4 ≤ 10
      · obtain ⟨z, hz, rfl⟩ := nI_of2 (M := 10) (n := 10) (by decide) z1 z2
        refine br_t z2 (nm_r (lb_row r a b) ⟨hji, ?_⟩)
        unfold wX_row_66 wY_row_48
        rw [cj]
        cases hL : L (9 * r + 3 * a + b)
        · rw [(hV _ hj).2 hL]
          refine br_f (by decide) ?_
          have hYl := (hYL _ hj).2 hL
          by_cases hc : lo_c L 36 < 10
          · have hlt : ro < 10 := by
              have hro' : ro = nI (lo_c L 36) := hro
              rw [hro']
              exact nI_lt (b := 10) hc (by decide)
            have hro2 : ro + 1 = nI (lo_c (lo_st L (9 * r + 3 * a + b) true) 36) := by
              have hro' : ro = nI (lo_c L 36) := hro
              rw [hro', nI_1, lo_st_c1 hj hL]
            refine br_t hlt (nm_e ⟨hji, nm_e (hY _ (br_f nn (br_f z1 (br_t z2 ⟨hji, ?_⟩))))⟩)
            rw [cj, hYl]
            refine br_t rfl (ly_rows hYL (br_f ?_ ⟨hji, nm_e ⟨hji, nm_e (ly_rows (lo_st_YL hYL hz) ⟨hro2.symm, ?_⟩)⟩⟩))
            · intro y
              have := (nI_eq (b := 10) (by omega) (by omega)).mp y
              omega
            · exact ⟨lo_st L (9 * r + 3 * a + b) true, lo_wu w (9 * r + 3 * a + b) z, q, f, s, hro2, by rw [lo_st_c1 hj hL]; omega, ham, lo_st_V hV hz, hQ, lo_st_YL hYL hz, hYQ⟩
          · have hc10 : lo_c L 36 = 10 := by omega
            have hlt : ¬ ro < 10 := by
              have hro' : ro = nI (lo_c L 36) := hro
              rw [hro', hc10]
              decide
            refine br_f hlt (hY _ (br_f nn (br_f z1 (br_t z2 ⟨hji, ?_⟩))))
            rw [cj, hYl]
            exact br_t rfl (ly_rows hYL (br_t (by rw [hc10]; rfl) ⟨rfl, I0⟩))
        · obtain ⟨el, hw⟩ := (hV _ hj).1 hL
          rw [el]
          have hYl := ((hYL _ hj).1 hL).1
          have hro2 : ro = nI (lo_c (lo_st L (9 * r + 3 * a + b) true) 36) := by
            rw [lo_st_id hL]; exact hro
          refine br_t (nI_pos' (by omega)) ⟨hji, nm_e (hY _ (br_f nn (br_f z1 (br_t z2 ⟨hji, ?_⟩))))⟩
          rw [cj, hYl]
          refine br_f (by decide) ⟨hji, nm_e ⟨hji, nm_e (ly_rows (lo_st_YL hYL hz) ⟨hro2.symm, ?_⟩)⟩⟩
          exact ⟨lo_st L (9 * r + 3 * a + b) true, lo_wu w (9 * r + 3 * a + b) z, q, f, s, hro2, by rw [lo_st_id hL]; exact h10, ham, lo_st_V hV hz, hQ, lo_st_YL hYL hz, hYQ⟩
      · exact br_f z2 (hY _ (br_f nn (br_f z1 (br_f z2 ⟨rfl, I0⟩))))
  · exact hX _ (br_t rfl (hY _ (br_t (by decide) ⟨rfl, I0⟩)))
theorem i_vc_drop {k : Nat} {u : SX} {v : SY} (I : i_Rel k u v) (hk : k + 5 ≤ 2560) (v1 : Int32) (v2 : Int32) (v3 : Int32) : wpX_drop (fun r u' => wpY_drop (fun r' v' => r' = r ∧ i_Rel (k + 5) u' v') v v1 v2 v3) u v1 v2 v3 := by
  obtain ⟨ro, am, de, sh, ex, li, wk, fv, sv, ki, so, va, re, vr, tu, dr, sw, ga, ge⟩ := u
  obtain ⟨yl, yo, yt, ya, yf, ys⟩ := v
  have I0 := I
  obtain ⟨L, w, q, f, s, hro, h10, ham, hV, hQ, hYL, hYQ⟩ := I
  replace hro : ro = nI (lo_c L 36) := hro
  replace ham : am = nI (lo_c q 4) := ham
  replace hV : lo_V L w li := hV
  replace hQ : lo_Q fv sv q f s := hQ
  replace hYL : lo_YL L w yl yo := hYL
  replace hYQ : lo_YQ q f s ya yf ys := hYQ
  unfold wpX_drop wpY_drop
  dsimp only
  rcases lo_num v1 v2 v3 with ⟨r, a, b, hr, ha, hb, e1, e2, e3, hX, hY⟩ | ⟨hX, hY⟩
  · subst e1 e2 e3
    have hj : 9 * r + 3 * a + b < 36 := by omega
    have hji : vp_in (nI (9 * r + 3 * a + b)) 36 := vp_in_nI hj (by decide)
    have cj : (nI (9 * r + 3 * a + b)).toNatClampNeg = 9 * r + 3 * a + b := nI_clamp (by omega)
    have nn : ¬ nI (9 * r + 3 * a + b) < 0 := nI_pos (by omega)
    refine lx_isl hV hr ha hb hX (fun hL => br_f (by decide) ?_) (fun hL => br_t rfl (hY _ (br_f nn ⟨hji, ?_⟩)))
    · have hc := lo_st_c0 hj hL
      have hro2 : ro - 1 = nI (lo_c (lo_st L (9 * r + 3 * a + b) false) 36) := by
        have hro' : ro = nI (lo_c L 36) := hro
        rw [hro', hc, nI_pred]
      have hYl := ((hYL _ hj).1 hL).1
      rw [lb_row, cj]
      refine ⟨hji, nm_e (nm_e (hY _ (br_f nn ⟨hji, ?_⟩)))⟩
      rw [cj, hYl]
      refine br_f (by decide) ⟨hji, nm_e (ly_rows (lo_st_YL0 hYL) ⟨hro2.symm, ?_⟩)⟩
      exact ⟨lo_st L (9 * r + 3 * a + b) false, w, q, f, s, hro2, by omega, ham, lo_st_V0 hV, hQ, lo_st_YL0 hYL, hYQ⟩
    · rw [cj, (hYL _ hj).2 hL]
      exact br_t rfl ⟨rfl, I0⟩
  · exact lx_isl0 hX (br_t rfl (hY _ (br_t (by decide) ⟨rfl, I0⟩)))
theorem i_vc_atom {k : Nat} {u : SX} {v : SY} (I : i_Rel k u v) (hk : k + 5 ≤ 2560) (v1 : Int32) (v2 : Int32) (v3 : Int32) : wpX_atom (fun r u' => wpY_atom (fun r' v' => r' = r ∧ i_Rel (k + 5) u' v') v v1 v2 v3) u v1 v2 v3 := by
  obtain ⟨ro, am, de, sh, ex, li, wk, fv, sv, ki, so, va, re, vr, tu, dr, sw, ga, ge⟩ := u
  obtain ⟨yl, yo, yt, ya, yf, ys⟩ := v
  have I0 := I
  obtain ⟨L, w, q, f, s, hro, h10, ham, hV, hQ, hYL, hYQ⟩ := I
  replace hro : ro = nI (lo_c L 36) := hro
  replace ham : am = nI (lo_c q 4) := ham
  replace hV : lo_V L w li := hV
  replace hQ : lo_Q fv sv q f s := hQ
  replace hYL : lo_YL L w yl yo := hYL
  replace hYQ : lo_YQ q f s ya yf ys := hYQ
  unfold wpX_atom wpY_atom
  dsimp only
  rcases lo_num v1 v2 v3 with ⟨r, a, b, hr, ha, hb, e1, e2, e3, hX, hY⟩ | ⟨hX, hY⟩
  · subst e1 e2 e3
    have hri : vp_in (nI r) 4 := vp_in_nI hr (by decide)
    have cr : (nI r).toNatClampNeg = r := nI_clamp (by omega)
    have nn : ¬ nI (9 * r + 3 * a + b) < 0 := nI_pos (by omega)
    refine hX _ (br_f (by decide) ?_)
    rw [cr]
    refine ⟨hri, ?_⟩
    cases hq : q r
    · rw [((hQ r hr).2 hq).1, (hYQ r hr).2 hq]
      have ham2 : am + 1 = nI (lo_c (lo_st q r true) 4) := by
        have ham' : am = nI (lo_c q 4) := ham
        rw [ham', nI_1, lo_st_c1 hr hq]
      refine br_t (by decide) ⟨hri, nm_e ⟨hri, nm_e (nm_e (hY _ (br_f nn ⟨hri, br_t rfl ⟨hri, nm_e ⟨hri, nm_e ⟨hri, nm_e ⟨5, ?_⟩⟩⟩⟩⟩)))⟩⟩
      refine ly_atom47 (lo_st_YQ hYQ ha hb) ⟨ham2.symm, ?_⟩ 4 0 rfl
      exact ⟨L, w, lo_st q r true, lo_wu f r a, lo_wu s r b, hro, h10, ham2, hV, lo_st_Q hQ ha hb, hYL, lo_st_YQ hYQ ha hb⟩
    · obtain ⟨e1, _, hf, _⟩ := (hQ r hr).1 hq
      have e2 := ((hYQ r hr).1 hq).1
      rw [e1, e2]
      exact br_f (nI_pos (by omega)) (hY _ (br_f nn ⟨hri, br_f (by decide) ⟨rfl, I0⟩⟩))
  · exact hX _ (br_t rfl (hY _ (br_t (by decide) ⟨rfl, I0⟩)))
theorem i_vc_clearQuery {k : Nat} {u : SX} {v : SY} (I : i_Rel k u v) (hk : k + 5 ≤ 2560) : wpX_clearQuery (fun u' => wpY_clearQuery (fun v' => i_Rel (k + 5) u' v') v) u := by
  obtain ⟨ro, am, de, sh, ex, li, wk, fv, sv, ki, so, va, re, vr, tu, dr, sw, ga, ge⟩ := u
  obtain ⟨yl, yo, yt, ya, yf, ys⟩ := v
  obtain ⟨L, w, q, f, s, hro, h10, ham, hV, hQ, hYL, hYQ⟩ := I
  replace hro : ro = nI (lo_c L 36) := hro
  replace ham : am = nI (lo_c q 4) := ham
  replace hV : lo_V L w li := hV
  replace hQ : lo_Q fv sv q f s := hQ
  replace hYL : lo_YL L w yl yo := hYL
  replace hYQ : lo_YQ q f s ya yf ys := hYQ
  refine lx_clear (fun fv' sv' hc => ly_clear (fun ya' hy => ?_))
  refine ⟨L, w, fun _ => false, f, s, hro, h10, show (0 : Int32) = nI (lo_c (fun _ => false) 4) by decide, hV, ?_, hYL, ?_⟩
  · exact fun r hr => ⟨fun z => absurd z lo_ff, fun _ => hc r hr⟩
  · exact fun r hr => ⟨fun z => absurd z lo_ff, fun _ => hy r hr⟩
theorem i_vc_nested {k : Nat} {u : SX} {v : SY} (I : i_Rel k u v) (hk : k + 5 ≤ 2560) : wpX_nested (fun r => wpY_nested (fun r' => r' = r ∧ i_Rel (k + 5) u v) v) u := by
  obtain ⟨ro, am, de, sh, ex, li, wk, fv, sv, ki, so, va, re, vr, tu, dr, sw, ga, ge⟩ := u
  obtain ⟨yl, yo, yt, ya, yf, ys⟩ := v
  have I0 := I
  obtain ⟨L, w, q, f, s, hro, h10, ham, hV, hQ, hYL, hYQ⟩ := I
  replace hro : ro = nI (lo_c L 36) := hro
  replace ham : am = nI (lo_c q 4) := ham
  replace hV : lo_V L w li := hV
  replace hQ : lo_Q fv sv q f s := hQ
  replace hYL : lo_YL L w yl yo := hYL
  replace hYQ : lo_YQ q f s ya yf ys := hYQ
  have e : (∀ x, x < 3 → ∀ y, y < x → lo_ok q f s x y) ↔ (∀ x, x < 3 → ∀ y, y < 3 → lo_ok q f s x y) := by
    constructor
    · intro h x hx y hy
      rcases Nat.lt_trichotomy x y with z | z | z
      · exact lo_ok_s (h y hy x z)
      · subst z; exact lo_ok_r
      · exact h x hx y z
    · intro h x hx y hy
      exact h x hx y (by omega)
  refine lx_nested hQ (fun z => ?_) (fun z => ?_)
  · exact ly_nested hYQ (fun _ => ⟨rfl, I0⟩) (fun y => absurd (e.mp z) y)
  · exact ly_nested hYQ (fun y => absurd (e.mpr y) z) (fun _ => ⟨rfl, I0⟩)
theorem i_vc_weight {k : Nat} {u : SX} {v : SY} (I : i_Rel k u v) (hk : k + 5 ≤ 2560) : wpX_weight (fun r u' => wpY_weight (fun r' v' => r' = r ∧ i_Rel (k + 5) u' v') v) u := by
  obtain ⟨ro, am, de, sh, ex, li, wk, fv, sv, ki, so, va, re, vr, tu, dr, sw, ga, ge⟩ := u
  obtain ⟨yl, yo, yt, ya, yf, ys⟩ := v
  obtain ⟨L, w, q, f, s, hro, h10, ham, hV, hQ, hYL, hYQ⟩ := I
  replace hro : ro = nI (lo_c L 36) := hro
  replace ham : am = nI (lo_c q 4) := ham
  replace hV : lo_V L w li := hV
  replace hQ : lo_Q fv sv q f s := hQ
  replace hYL : lo_YL L w yl yo := hYL
  replace hYQ : lo_YQ q f s ya yf ys := hYQ
  refine lx_weight hQ hV h10 hro (fun wk' de' sh' ex' G => ?_)
  unfold wpY_weight
  dsimp only
  exact ly_sum hYL hYQ h10 (P := lo_Ht q f s) (Or.inl ⟨by decide, fun _ => Iff.rfl⟩) (fun yt' => ⟨rfl, L, w, q, f, s, hro, h10, ham, hV, hQ, hYL, hYQ⟩)
theorem i_vc_weightWith {k : Nat} {u : SX} {v : SY} (I : i_Rel k u v) (hk : k + 5 ≤ 2560) (v1 : Int32) (v2 : Int32) (v3 : Int32) : wpX_weightWith (fun r u' => wpY_weightWith (fun r' v' => r' = r ∧ i_Rel (k + 5) u' v') v v1 v2 v3) u v1 v2 v3 := by
  obtain ⟨ro, am, de, sh, ex, li, wk, fv, sv, ki, so, va, re, vr, tu, dr, sw, ga, ge⟩ := u
  obtain ⟨yl, yo, yt, ya, yf, ys⟩ := v
  have I0 := I
  obtain ⟨L, w, q, f, s, hro, h10, ham, hV, hQ, hYL, hYQ⟩ := I
  replace hro : ro = nI (lo_c L 36) := hro
  replace ham : am = nI (lo_c q 4) := ham
  replace hV : lo_V L w li := hV
  replace hQ : lo_Q fv sv q f s := hQ
  replace hYL : lo_YL L w yl yo := hYL
  replace hYQ : lo_YQ q f s ya yf ys := hYQ
  rcases lo_num v1 v2 v3 with ⟨r, a, b, hr, ha, hb, e1, e2, e3, hX, hY⟩ | ⟨hX, hY⟩
  · subst e1 e2 e3
    have hj : 9 * r + 3 * a + b < 36 := by omega
    refine lx_weightWith hQ hV h10 hro hr ha hb hX (fun wk' de' sh' ex' G => ?_)
    unfold wpY_weightWith
    dsimp only
    refine hY _ (br_t (nI_pos' (by omega)) ?_)
    exact ly_sum hYL hYQ h10 (P := fun ρ => ρ (9 * r + 3 * a + b) = true ∧ lo_Ht q f s ρ) (Or.inr ⟨9 * r + 3 * a + b, true, hj, rfl, rfl, fun _ => Iff.rfl⟩) (fun yt' => ⟨rfl, L, w, q, f, s, hro, h10, ham, hV, hQ, hYL, hYQ⟩)
  · unfold wpX_weightWith wpY_weightWith
    dsimp only
    exact lx_isl0 hX (br_t rfl (hY _ (br_f (by decide) ⟨rfl, I0⟩)))
theorem i_vc_weightWithout {k : Nat} {u : SX} {v : SY} (I : i_Rel k u v) (hk : k + 5 ≤ 2560) (v1 : Int32) (v2 : Int32) (v3 : Int32) : wpX_weightWithout (fun r u' => wpY_weightWithout (fun r' v' => r' = r ∧ i_Rel (k + 5) u' v') v v1 v2 v3) u v1 v2 v3 := by
  obtain ⟨ro, am, de, sh, ex, li, wk, fv, sv, ki, so, va, re, vr, tu, dr, sw, ga, ge⟩ := u
  obtain ⟨yl, yo, yt, ya, yf, ys⟩ := v
  have I0 := I
  obtain ⟨L, w, q, f, s, hro, h10, ham, hV, hQ, hYL, hYQ⟩ := I
  replace hro : ro = nI (lo_c L 36) := hro
  replace ham : am = nI (lo_c q 4) := ham
  replace hV : lo_V L w li := hV
  replace hQ : lo_Q fv sv q f s := hQ
  replace hYL : lo_YL L w yl yo := hYL
  replace hYQ : lo_YQ q f s ya yf ys := hYQ
  rcases lo_num v1 v2 v3 with ⟨r, a, b, hr, ha, hb, e1, e2, e3, hX, hY⟩ | ⟨hX, hY⟩
  · subst e1 e2 e3
    have hj : 9 * r + 3 * a + b < 36 := by omega
    refine lx_weightWithout hQ hV h10 hro hr ha hb hX (fun wk' de' sh' ex' G => ?_)
    unfold wpY_weightWithout
    dsimp only
    refine hY _ ?_
    exact ly_sum hYL hYQ h10 (P := fun ρ => ρ (9 * r + 3 * a + b) = false ∧ lo_Ht q f s ρ) (Or.inr ⟨9 * r + 3 * a + b, false, hj, rfl, rfl, fun _ => Iff.rfl⟩) (fun yt' => ⟨rfl, L, w, q, f, s, hro, h10, ham, hV, hQ, hYL, hYQ⟩)
  · unfold wpX_weightWithout wpY_weightWithout
    dsimp only
    refine lx_isl0 hX (br_t rfl (lx_weight hQ hV h10 hro (fun wk' de' sh' ex' G => ?_)))
    obtain ⟨ki2, so2, va2, re2, vr2, tu2, dr2, sw2, ga2, ge2⟩ := G
    refine hY _ ?_
    exact ly_sum hYL hYQ h10 (P := lo_Ht q f s) (Or.inl ⟨by decide, fun _ => Iff.rfl⟩) (fun yt' => ⟨rfl, L, w, q, f, s, hro, h10, ham, hV, hQ, hYL, hYQ⟩)
theorem i_vc_worlds {k : Nat} {u : SX} {v : SY} (I : i_Rel k u v) (hk : k + 5 ≤ 2560) : wpX_worlds (fun r u' => wpY_worlds (fun r' v' => r' = r ∧ i_Rel (k + 5) u' v') v) u := by
  obtain ⟨ro, am, de, sh, ex, li, wk, fv, sv, ki, so, va, re, vr, tu, dr, sw, ga, ge⟩ := u
  obtain ⟨yl, yo, yt, ya, yf, ys⟩ := v
  obtain ⟨L, w, q, f, s, hro, h10, ham, hV, hQ, hYL, hYQ⟩ := I
  replace hro : ro = nI (lo_c L 36) := hro
  replace ham : am = nI (lo_c q 4) := ham
  replace hV : lo_V L w li := hV
  replace hQ : lo_Q fv sv q f s := hQ
  replace hYL : lo_YL L w yl yo := hYL
  replace hYQ : lo_YQ q f s ya yf ys := hYQ
  refine lx_worlds hQ hV h10 hro (fun wk' de' sh' ex' G => ?_)
  exact ly_worlds hYL hYQ h10 (fun yt' => ⟨rfl, L, w, q, f, s, hro, h10, ham, hV, hQ, hYL, hYQ⟩)
theorem i_vc_heaviest {k : Nat} {u : SX} {v : SY} (I : i_Rel k u v) (hk : k + 5 ≤ 2560) : wpX_heaviest (fun r u' => wpY_heaviest (fun r' v' => r' = r ∧ i_Rel (k + 5) u' v') v) u := by
  obtain ⟨ro, am, de, sh, ex, li, wk, fv, sv, ki, so, va, re, vr, tu, dr, sw, ga, ge⟩ := u
  obtain ⟨yl, yo, yt, ya, yf, ys⟩ := v
  obtain ⟨L, w, q, f, s, hro, h10, ham, hV, hQ, hYL, hYQ⟩ := I
  replace hro : ro = nI (lo_c L 36) := hro
  replace ham : am = nI (lo_c q 4) := ham
  replace hV : lo_V L w li := hV
  replace hQ : lo_Q fv sv q f s := hQ
  replace hYL : lo_YL L w yl yo := hYL
  replace hYQ : lo_YQ q f s ya yf ys := hYQ
  rcases lo_bst_ex (lo_Hm L q f s) (lo_pm L w) (2 ^ lo_c L 36) with hN | ⟨b, hB⟩
  · refine lx_heavy0 hQ hV h10 hN (fun wk' => ?_)
    exact ly_heavy hYL hYQ h10 (fun _ yt' => ⟨rfl, L, w, q, f, s, hro, h10, ham, hV, hQ, hYL, hYQ⟩) (fun c hC => absurd hC.2.1 (hN c hC.1))
  · refine lx_heavy hQ hV h10 hro hB (fun wk' => ?_)
    refine ly_heavy hYL hYQ h10 (fun hN => absurd hB.2.1 (hN b hB.1)) (fun c hC yt' => ⟨?_, L, w, q, f, s, hro, h10, ham, hV, hQ, hYL, hYQ⟩)
    rw [lo_bst_u hC hB]
end
