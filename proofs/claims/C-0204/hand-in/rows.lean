section
theorem pk_us {f : Nat → Int32} {k : Nat} {x : Int32} : upd f k x k = x := if_pos rfl
theorem pk_un {f : Nat → Int32} {k j : Nat} {x : Int32} (h : j ≠ k) : upd f k x j = f j := if_neg h
theorem pk_sub {a b : Nat} (h : b ≤ a) : nI a - nI b = nI (a - b) := by
  obtain ⟨c, rfl⟩ : ∃ c, a = c + b := ⟨a - b, by omega⟩
  rw [← nI_add, Int32.add_sub_cancel, Nat.add_sub_cancel]
theorem pk_m1 (n : Nat) : nI (n + 1) + (-1) = nI n := by
  rw [← nI_1, Int32.add_assoc, show (1 : Int32) + (-1) = 0 from rfl, Int32.add_zero]
theorem pk_mul (a b : Nat) : nI a * nI b = nI (a * b) := (Int32.ofNat_mul a b).symm
theorem pk_div {a d : Nat} (ha : a < 2 ^ 31) (h0 : 0 < d) (hd : d < 2 ^ 31) : nI a / nI d = nI (a / d) := by
  apply Int32.toInt_inj.mp
  rw [lg_idiv_nonneg (by rw [nI_toInt ha]; omega) (by rw [nI_toInt hd]; omega), nI_toInt ha, nI_toInt hd, nI_toInt (Nat.lt_of_le_of_lt (Nat.div_le_self a d) ha)]
  first | rfl | exact (Int.natCast_ediv _ _).symm
theorem pk_rem {a d : Nat} (ha : a < 2 ^ 31) (h0 : 0 < d) (hd : d < 2 ^ 31) : nI a - nI a / nI d * nI d = nI (a % d) := by
  rw [pk_div ha h0 hd, pk_mul, pk_sub (Nat.div_mul_le_self a d)]
  exact congrArg nI (by have := Nat.div_add_mod' a d; omega)
theorem pk_sub_toInt {a b : Nat} (ha : a < 2 ^ 30) (hb : b < 2 ^ 30) : (nI a - nI b).toInt = (a : Int) - b := by
  rw [Int32.toInt_sub, nI_toInt (by omega), nI_toInt (by omega)]
  exact Int.bmod_eq_of_le (by omega) (by omega)
theorem pk_sneg {a b : Nat} (hb : b < 2 ^ 30) (h : a < b) : nI a - nI b < 0 := by
  rw [Int32.lt_iff_toInt_lt, pk_sub_toInt (by omega) hb, show (0 : Int32).toInt = 0 from by decide]
  omega
theorem pk_ix (x : Int32) {n : Nat} (hn : n < 2 ^ 31) : x < 0 ∨ nI n ≤ x ∨ ∃ j : Nat, j < n ∧ x = nI j := by
  by_cases h : x < 0
  · exact Or.inl h
  · obtain ⟨j, hj, rfl⟩ := nI_of h
    by_cases h2 : j < n
    · exact Or.inr (Or.inr ⟨j, h2, rfl⟩)
    · exact Or.inr (Or.inl (nI_le (by omega) hj))
theorem pk_le {x y : Int32} {A B : Prop} (a b : Nat) (f : a ≤ b → A) (g : b < a → B) (hx : x = nI a := by rfl) (hy : y = nI b := by rfl) (ha : a < 2 ^ 31 := by omega) (hb : b < 2 ^ 31 := by omega) : (x ≤ y → A) ∧ (¬ x ≤ y → B) := by
  subst hx hy
  rw [nI_leI ha hb]
  exact ⟨f, fun z => g (by omega)⟩
theorem pk_lt {x y : Int32} {A B : Prop} (a b : Nat) (f : a < b → A) (g : b ≤ a → B) (hx : x = nI a := by rfl) (hy : y = nI b := by rfl) (ha : a < 2 ^ 31 := by omega) (hb : b < 2 ^ 31 := by omega) : (x < y → A) ∧ (¬ x < y → B) := by
  subst hx hy
  rw [nI_ltI ha hb]
  exact ⟨f, fun z => g (by omega)⟩
theorem pk_eq {x y : Int32} {A B : Prop} (a b : Nat) (f : a = b → A) (g : a ≠ b → B) (hx : x = nI a := by rfl) (hy : y = nI b := by rfl) (ha : a < 2 ^ 31 := by omega) (hb : b < 2 ^ 31 := by omega) : (x = y → A) ∧ (¬ x = y → B) := by
  subst hx hy
  rw [nI_eq ha hb]
  exact ⟨f, g⟩
theorem pk_in {x : Int32} (n N : Nat) (h : n < N) (hx : x = nI n := by rfl) (hN : N < 2 ^ 31 := by omega) : vp_in x N := by
  subst hx
  exact vp_in_nI h hN
theorem pk_cl {x : Int32} (n : Nat) (hx : x = nI n := by rfl) (h : n < 2 ^ 31 := by omega) : x.toNatClampNeg = n := by
  subst hx
  exact nI_clamp h
theorem pk_tn {n : Nat} (h : n < 2 ^ 32) : (nI n).toBitVec.toNat = n := Nat.mod_eq_of_lt h
theorem pk_and (x : Int32) {m : Int32} (k : Nat) (hm : m.toBitVec.toNat = 2 ^ k - 1) : x &&& m = nI (x.toBitVec.toNat % 2 ^ k) := by
  apply Int32.toBitVec_inj.mp
  apply BitVec.eq_of_toNat_eq
  rw [Int32.toBitVec_and, BitVec.toNat_and, hm, Nat.and_two_pow_sub_one_eq_mod]
  show _ = (BitVec.ofNat 32 _).toNat
  rw [BitVec.toNat_ofNat]
  exact (Nat.mod_eq_of_lt (Nat.lt_of_le_of_lt (Nat.mod_le _ _) x.toBitVec.isLt)).symm
theorem pk_andN {n : Nat} (h : n < 2 ^ 32) {m : Int32} (k : Nat) (hm : m.toBitVec.toNat = 2 ^ k - 1) : nI n &&& m = nI (n % 2 ^ k) := by
  rw [pk_and _ k hm, pk_tn h]
theorem pk_andE (x : Int32) {m : Int32} (k : Nat) (hm : m.toBitVec.toNat = 2 ^ k - 1) : ∃ j : Nat, j < 2 ^ k ∧ x &&& m = nI j := ⟨_, Nat.mod_lt _ (Nat.two_pow_pos k), pk_and x k hm⟩
theorem pk_andIn (x : Int32) {m : Int32} (k : Nat) (hm : m.toBitVec.toNat = 2 ^ k - 1) (hk : k ≤ 30) : vp_in (x &&& m) (2 ^ k) := by
  obtain ⟨j, hj, e⟩ := pk_andE x k hm
  rw [e]
  exact vp_in_nI hj (Nat.lt_of_le_of_lt (Nat.pow_le_pow_right (by decide) hk) (by decide))
theorem pk_shl (a s : Int32) (k : Nat) (hs : (s.toBitVec.smod 32).toNat = k) : (a <<< s).toBitVec.toNat = a.toBitVec.toNat * 2 ^ k % 2 ^ 32 := by
  show (a.toBitVec <<< (s.toBitVec.smod 32).toNat).toNat = _
  rw [hs, BitVec.toNat_shiftLeft, Nat.shiftLeft_eq]
theorem pk_shlN {n : Nat} (s : Int32) (k : Nat) (hs : (s.toBitVec.smod 32).toNat = k) (h : n * 2 ^ k < 2 ^ 32) : nI n <<< s = nI (n * 2 ^ k) := by
  apply Int32.toBitVec_inj.mp
  apply BitVec.eq_of_toNat_eq
  have hn : n < 2 ^ 32 := Nat.lt_of_le_of_lt (Nat.le_mul_of_pos_right n (Nat.two_pow_pos k)) h
  rw [pk_shl _ _ k hs, pk_tn hn, pk_tn h, Nat.mod_eq_of_lt h]
theorem pk_shr (a s : Int32) (k : Nat) (hs : (s.toBitVec.smod 32).toNat = k) : (a >>> s).toInt = a.toInt >>> k := by
  show (a.toBitVec.sshiftRight (s.toBitVec.smod 32).toNat).toInt = _
  rw [hs, BitVec.toInt_sshiftRight]
  rfl
theorem pk_shrN {n : Nat} (h : n < 2 ^ 31) (s : Int32) (k : Nat) (hs : (s.toBitVec.smod 32).toNat = k) : nI n >>> s = nI (n / 2 ^ k) := by
  apply Int32.toInt_inj.mp
  have h2 : n / 2 ^ k ≤ n := Nat.div_le_self _ _
  rw [pk_shr _ _ k hs, nI_toInt h, nI_toInt (by omega), Int.shiftRight_eq_div_pow]
  rfl
theorem pk_ushr (x s : Int32) (k : Nat) (hs : ((s.toUInt32 &&& Int32.toUInt32 31).toBitVec % 32).toNat = k) : (x.toUInt32 >>> (s.toUInt32 &&& Int32.toUInt32 31)).toInt32.toBitVec.toNat = x.toBitVec.toNat / 2 ^ k := by
  have e : (x.toUInt32 >>> (s.toUInt32 &&& Int32.toUInt32 31)).toInt32.toBitVec = x.toBitVec >>> k := by
    rw [← hs]
    exact UInt32.toBitVec_shiftRight _ _
  rw [e, BitVec.toNat_ushiftRight, Nat.shiftRight_eq_div_pow]
theorem pk_ushrN {n : Nat} (hn : n < 2 ^ 32) (s : Int32) (k : Nat) (hs : ((s.toUInt32 &&& Int32.toUInt32 31).toBitVec % 32).toNat = k) : ((nI n).toUInt32 >>> (s.toUInt32 &&& Int32.toUInt32 31)).toInt32 = nI (n / 2 ^ k) := by
  apply Int32.toBitVec_inj.mp
  apply BitVec.eq_of_toNat_eq
  rw [pk_ushr _ s k hs, pk_tn hn, pk_tn (Nat.lt_of_le_of_lt (Nat.div_le_self _ _) hn)]
def bt (x : Int32) (i : Nat) : Bool := x.toBitVec.getLsbD i
theorem b_ext {x y : Int32} (h : ∀ i, i < 32 → bt x i = bt y i) : x = y := Int32.toBitVec_inj.mp (BitVec.eq_of_getLsbD_eq (fun i hi => h i hi))
theorem b_or (x y : Int32) (i : Nat) : bt (x ||| y) i = (bt x i || bt y i) := by unfold bt; rw [Int32.toBitVec_or, BitVec.getLsbD_or]
theorem b_and (x y : Int32) (i : Nat) : bt (x &&& y) i = (bt x i && bt y i) := by unfold bt; rw [Int32.toBitVec_and, BitVec.getLsbD_and]
theorem b_xor (x y : Int32) (i : Nat) : bt (x ^^^ y) i = (bt x i ^^ bt y i) := by unfold bt; rw [Int32.toBitVec_xor, BitVec.getLsbD_xor]
theorem b_big {x : Int32} {i : Nat} (h : 32 ≤ i) : bt x i = false := BitVec.getLsbD_of_ge _ _ h
theorem b_255 (i : Nat) : bt 255 i = decide (i < 8) := by
  rcases Nat.lt_or_ge i 32 with h | h
  · exact (by decide +kernel : ∀ i, i < 32 → bt 255 i = decide (i < 8)) i h
  · rw [b_big h, decide_eq_false (by omega)]
theorem b_65535 (i : Nat) : bt 65535 i = decide (i < 16) := by
  rcases Nat.lt_or_ge i 32 with h | h
  · exact (by decide +kernel : ∀ i, i < 32 → bt 65535 i = decide (i < 16)) i h
  · rw [b_big h, decide_eq_false (by omega)]
theorem b_m1 : ∀ i, i < 32 → bt (-1) i = true := by decide +kernel
theorem b_0 (i : Nat) : bt 0 i = false := BitVec.getLsbD_zero
theorem s_l : ∀ n, n < 32 → ((nI n &&& 31).toBitVec.smod 32).toNat = n := by decide +kernel
theorem s_u : ∀ n, n < 32 → (((nI n).toUInt32 &&& Int32.toUInt32 31).toBitVec % 32).toNat = n := by decide +kernel
theorem b_shl (n : Nat) (hn : n < 32) (x : Int32) {i : Nat} (hi : i < 32) : bt (x <<< (nI n &&& 31)) i = (decide (n ≤ i) && bt x (i - n)) := by
  unfold bt
  rw [Int32.toBitVec_shiftLeft]
  show (x.toBitVec <<< ((nI n &&& 31).toBitVec.smod 32).toNat).getLsbD i = _
  rw [s_l n hn, BitVec.getLsbD_shiftLeft]
  rcases Nat.lt_or_ge i n with h | h
  · simp [h, Nat.not_le.mpr h]
  · simp [hi, h, Nat.not_lt.mpr h]
theorem b_ushr (n : Nat) (hn : n < 32) (x : Int32) (i : Nat) : bt ((x.toUInt32 >>> ((nI n).toUInt32 &&& Int32.toUInt32 31)).toInt32) i = bt x (n + i) := by
  show (x.toUInt32 >>> ((nI n).toUInt32 &&& Int32.toUInt32 31)).toBitVec.getLsbD i = x.toUInt32.toBitVec.getLsbD (n + i)
  rw [UInt32.toBitVec_shiftRight]
  show (x.toUInt32.toBitVec >>> (((nI n).toUInt32 &&& Int32.toUInt32 31).toBitVec % 32).toNat).getLsbD i = _
  rw [s_u n hn, BitVec.getLsbD_ushiftRight]
theorem b_sshr (n : Nat) (hn : n < 32) (x : Int32) {i : Nat} (hi : i < 32) : bt (x >>> (nI n &&& 31)) i = if n + i < 32 then bt x (n + i) else bt x 31 := by
  unfold bt
  rw [Int32.toBitVec_shiftRight]
  show (x.toBitVec.sshiftRight ((nI n &&& 31).toBitVec.smod 32).toNat).getLsbD i = _
  rw [s_l n hn, BitVec.getLsbD_sshiftRight, BitVec.msb_eq_getLsbD_last]
  simp [hi]
end
section
section EB
/-! numbers -/
theorem en_im {a b : Nat} (h : nI a = nI b) (ha : a < 2 ^ 31) (hb : b < 2 ^ 31) : a = b := (nI_eq ha hb).mp h
theorem en_m1 {a : Nat} (h : a < 2 ^ 31) : ¬ nI a = -1 := by
  intro e
  have := nI_pos (n := a) h
  rw [e] at this
  exact this (by decide)
theorem en_b0 : vp_nar .boolean 0 = 0 := by decide
theorem en_b1 : vp_nar .boolean 1 = 1 := by decide
theorem en_b {r : Int32} (h : r = 0 ∨ r = 1) : vp_nar .boolean r = r := by
  rcases h with h | h
  · rw [h, en_b0]
  · rw [h, en_b1]
theorem en_10 : ¬ (1 : Int32) = 0 := by decide
/-! bits -/
theorem eb_1 : ∀ i, i < 32 → bt 1 i = decide (i = 0) := by decide +kernel
theorem eb_tst (x : Int32) {k : Nat} (hk : k < 32) : ((x >>> (nI k &&& 31)) &&& 1) = if bt x k = true then 1 else 0 := by
  apply b_ext
  intro i hi
  rw [b_and, b_sshr k hk x hi, eb_1 i hi]
  by_cases h0 : i = 0
  · subst h0
    rw [Nat.add_zero, if_pos hk]
    cases hb : bt x k
    · simp [b_0]
    · simp [eb_1]
  · rw [decide_eq_false h0, Bool.and_false]
    cases hb : bt x k
    · simp [b_0]
    · simp [eb_1 i hi, h0]
theorem eb_t1 (x : Int32) {k : Nat} (hk : k < 32) : ((x >>> (nI k &&& 31)) &&& 1) = 1 ↔ bt x k = true := by
  rw [eb_tst x hk]
  cases bt x k
  · simp
  · simp
theorem eb_t0 (x : Int32) {k : Nat} (hk : k < 32) : ((x >>> (nI k &&& 31)) &&& 1) = 0 ↔ bt x k = false := by
  rw [eb_tst x hk]
  cases bt x k
  · simp
  · simp
theorem eb_one {k i : Nat} (hk : k < 32) (hi : i < 32) : bt ((1 : Int32) <<< (nI k &&& 31)) i = decide (i = k) := by
  rw [b_shl k hk 1 hi, eb_1 (i - k) (by omega)]
  by_cases h : i = k
  · subst h; simp
  · by_cases h2 : k ≤ i
    · have h3 : ¬ (i - k = 0) := by omega
      rw [decide_eq_false h3, decide_eq_false h, Bool.and_false]
    · rw [decide_eq_false h2, decide_eq_false h, Bool.false_and]
theorem eb_set (x : Int32) {k i : Nat} (hk : k < 32) (hi : i < 32) : bt (x ||| ((1 : Int32) <<< (nI k &&& 31))) i = (bt x i || decide (i = k)) := by
  rw [b_or, eb_one hk hi]
theorem eb_clr (x : Int32) {k i : Nat} (hk : k < 32) (hi : i < 32) : bt (x &&& (((1 : Int32) <<< (nI k &&& 31)) ^^^ (-1))) i = (bt x i && !decide (i = k)) := by
  rw [b_and, b_xor, eb_one hk hi, b_m1 i hi, Bool.xor_true]
theorem eb_hit (x : Int32) {k : Nat} (hk : k < 32) : (x &&& ((1 : Int32) <<< (nI k &&& 31))) = 0 ↔ bt x k = false := by
  constructor
  · intro h
    have h1 : bt (x &&& ((1 : Int32) <<< (nI k &&& 31))) k = bt 0 k := by rw [h]
    rw [b_and, eb_one hk hk, b_0, decide_eq_true rfl, Bool.and_true] at h1
    exact h1
  · intro h
    apply b_ext
    intro i hi
    rw [b_and, eb_one hk hi, b_0]
    by_cases e : i = k
    · rw [e, h, Bool.false_and]
    · rw [decide_eq_false e, Bool.and_false]
theorem eb_z {x : Int32} (h : ∀ i, i < 32 → bt x i = false) : x = 0 := b_ext (fun i hi => by rw [h i hi, b_0])
theorem eb_f {b : Bool} (h : ¬ b = true) : b = false := by cases b; rfl; exact absurd rfl h
/-! sums -/
def es_n (f : Nat → Nat) : Nat → Nat
  | 0 => 0
  | n + 1 => es_n f n + f n
theorem es_n_s (f : Nat → Nat) (n : Nat) : es_n f (n + 1) = es_n f n + f n := rfl
theorem es_n_cg {f g : Nat → Nat} : ∀ (n : Nat), (∀ i, i < n → f i = g i) → es_n f n = es_n g n := by
  intro n
  induction n with
  | zero => intro _; rfl
  | succ n ih => intro h; rw [es_n_s, es_n_s, ih (fun i hi => h i (by omega)), h n (by omega)]
theorem es_n_ch {f g : Nat → Nat} {k : Nat} : ∀ (n : Nat), k < n → (∀ i, i < n → i ≠ k → f i = g i) → es_n f n + g k = es_n g n + f k := by
  intro n
  induction n with
  | zero => intro h; exact absurd h (by omega)
  | succ n ih =>
    intro hk h
    rw [es_n_s, es_n_s]
    by_cases e : k = n
    · subst e
      rw [es_n_cg k (fun i hi => h i (by omega) (by omega))]
      omega
    · have := ih (by omega) (fun i hi hne => h i (by omega) hne)
      have := h n (by omega) (by omega)
      omega
theorem es_n_le {f : Nat → Nat} {c : Nat} : ∀ (n : Nat), (∀ i, i < n → f i ≤ c) → es_n f n ≤ c * n := by
  intro n
  induction n with
  | zero => intro _; exact Nat.zero_le _
  | succ n ih =>
    intro h
    have h1 := ih (fun i hi => h i (by omega))
    have h2 := h n (by omega)
    rw [es_n_s, Nat.mul_succ]
    omega
theorem es_n_ge {f : Nat → Nat} {k : Nat} : ∀ (n : Nat), k < n → f k ≤ es_n f n := by
  intro n
  induction n with
  | zero => intro h; exact absurd h (by omega)
  | succ n ih =>
    intro h
    rw [es_n_s]
    by_cases e : k = n
    · subst e; omega
    · have := ih (by omega); omega
def es_i (f : Nat → Int32) : Nat → Int32
  | 0 => 0
  | n + 1 => es_i f n + f n
theorem es_i_s (f : Nat → Int32) (n : Nat) : es_i f (n + 1) = es_i f n + f n := rfl
theorem es_i_cg {f g : Nat → Int32} : ∀ (n : Nat), (∀ i, i < n → f i = g i) → es_i f n = es_i g n := by
  intro n
  induction n with
  | zero => intro _; rfl
  | succ n ih => intro h; rw [es_i_s, es_i_s, ih (fun i hi => h i (by omega)), h n (by omega)]
theorem es_i_z {f : Nat → Int32} : ∀ (n : Nat), (∀ i, i < n → f i = 0) → es_i f n = 0 := by
  intro n
  induction n with
  | zero => intro _; rfl
  | succ n ih => intro h; rw [es_i_s, ih (fun i hi => h i (by omega)), h n (by omega)]; rfl
theorem es_i_ch {f g : Nat → Int32} {k : Nat} : ∀ (n : Nat), k < n → (∀ i, i < n → i ≠ k → f i = g i) → es_i g n + f k = es_i f n + g k := by
  intro n
  induction n with
  | zero => intro h; exact absurd h (by omega)
  | succ n ih =>
    intro hk h
    rw [es_i_s, es_i_s]
    by_cases e : k = n
    · subst e
      rw [es_i_cg k (fun i hi => h i (by omega) (by omega))]
      ac_rfl
    · have h1 := ih (by omega) (fun i hi hne => h i (by omega) hne)
      have h2 := h n (by omega) (by omega)
      rw [h2]
      calc es_i g n + g n + f k = (es_i g n + f k) + g n := by ac_rfl
        _ = (es_i f n + g k) + g n := by rw [h1]
        _ = es_i f n + g n + g k := by ac_rfl
theorem es_i_ad {f g : Nat → Int32} {k : Nat} {n : Nat} (hk : k < n) (h : ∀ i, i < n → i ≠ k → f i = g i) {c : Int32} (e : g k = f k + c) : es_i g n = es_i f n + c := by
  have h1 := es_i_ch n hk h
  rw [e] at h1
  have h2 : es_i g n + f k = (es_i f n + c) + f k := by rw [h1]; ac_rfl
  exact (Int32.add_left_inj _).mp h2
/-! the last link of a node below a number -/
def el_a (src : Nat → Nat) (k : Nat) : Nat → Int32
  | 0 => -1
  | n + 1 => if src n = k then nI n else el_a src k n
theorem el_a_s (src : Nat → Nat) (k n : Nat) : el_a src k (n + 1) = if src n = k then nI n else el_a src k n := rfl
theorem el_a_c (src : Nat → Nat) (k : Nat) : ∀ m, (el_a src k m = -1 ∧ ∀ e, e < m → src e ≠ k) ∨ (∃ e, e < m ∧ src e = k ∧ el_a src k m = nI e ∧ ∀ e', e < e' → e' < m → src e' ≠ k) := by
  intro m
  induction m with
  | zero => exact Or.inl ⟨rfl, fun e h => absurd h (by omega)⟩
  | succ m ih =>
    rw [el_a_s]
    by_cases h : src m = k
    · rw [if_pos h]
      exact Or.inr ⟨m, by omega, h, rfl, fun e' h1 h2 => absurd h1 (by omega)⟩
    · rw [if_neg h]
      rcases ih with ⟨h1, h2⟩ | ⟨e, h1, h2, h3, h4⟩
      · refine Or.inl ⟨h1, fun e he => ?_⟩
        by_cases q : e = m
        · rw [q]; exact h
        · exact h2 e (by omega)
      · refine Or.inr ⟨e, by omega, h2, h3, fun e' g1 g2 => ?_⟩
        by_cases q : e' = m
        · rw [q]; exact h
        · exact h4 e' g1 (by omega)
theorem el_a_g {src src' : Nat → Nat} {k : Nat} : ∀ m, (∀ e, e < m → src e = src' e) → el_a src k m = el_a src' k m := by
  intro m
  induction m with
  | zero => intro _; rfl
  | succ m ih => intro h; rw [el_a_s, el_a_s, ih (fun e he => h e (by omega)), h m (by omega)]
end EB
end
section
section NH
/-! what a node holds, out of its score; the score as a sum over links -/
def nh_v (so fi sp : Nat → Int32) (mk t sc : Int32) (k : Nat) : Int32 :=
  if so k = 0 then (if ((mk >>> (fi k &&& 31)) &&& 1) = 1 then 1 else 0)
  else if so k = 1 then (if t < fi k then 0 else 1)
  else if so k = 2 then (if sp k ≤ t - t / fi k * fi k then 0 else 1)
  else (if sc < fi k then 0 else 1)
def nh_x (gt : Nat → Nat) (lw b : Nat → Int32) (g n : Nat) : Int32 := es_i (fun e => if gt e = g ∧ ¬ b e = 0 then lw e else 0) n
def nh_y (iN iW t : Nat → Int32) (g n : Nat) : Int32 := es_i (fun j => if t (iN (6 * g + j)).toNatClampNeg = 0 then 0 else iW (6 * g + j)) n
theorem nh_v01 (so fi sp : Nat → Int32) (mk t sc : Int32) (k : Nat) : nh_v so fi sp mk t sc k = 0 ∨ nh_v so fi sp mk t sc k = 1 := by
  unfold nh_v
  split
  · split
    · exact Or.inr rfl
    · exact Or.inl rfl
  · split
    · split
      · exact Or.inl rfl
      · exact Or.inr rfl
    · split
      · split
        · exact Or.inl rfl
        · exact Or.inr rfl
      · split
        · exact Or.inl rfl
        · exact Or.inr rfl
theorem nh_x_cg {gt : Nat → Nat} {lw b b' : Nat → Int32} {g n : Nat} (h : ∀ e, e < n → gt e = g → (b e = 0 ↔ b' e = 0)) : nh_x gt lw b g n = nh_x gt lw b' g n := by
  unfold nh_x
  refine es_i_cg n (fun e he => ?_)
  try dsimp only
  by_cases q : gt e = g
  · have := h e he q
    by_cases z : b e = 0
    · rw [if_neg (fun w => w.2 z), if_neg (fun w => w.2 (this.mp z))]
    · rw [if_pos ⟨q, z⟩, if_pos ⟨q, fun w => z (this.mpr w)⟩]
  · rw [if_neg (fun w => q w.1), if_neg (fun w => q w.1)]
theorem nh_x_z {gt : Nat → Nat} {lw b : Nat → Int32} {g n : Nat} (h : ∀ e, e < n → gt e ≠ g) : nh_x gt lw b g n = 0 :=
  es_i_z n (fun e he => if_neg (fun w => h e he w.1))
/-- the table: each node below nc holds what its score gives -/
def rl_T (nc lc : Nat) (gt src : Nat → Nat) (lw so fi sp : Nat → Int32) (mk t : Int32) (tb : Nat → Int32) : Prop :=
  ∀ k, k < nc → tb k = nh_v so fi sp mk t (nh_x gt lw (fun e => tb (src e)) k lc) k
theorem nh_uq {nc lc : Nat} {gt src : Nat → Nat} {lw so fi sp : Nat → Int32} {mk t : Int32} {ta tb : Nat → Int32} (hl : ∀ e, e < lc → src e < gt e) (ha : rl_T nc lc gt src lw so fi sp mk t ta) (hb : rl_T nc lc gt src lw so fi sp mk t tb) : ∀ k, k < nc → ta k = tb k := by
  intro k
  induction k using Nat.strongRecOn with
  | _ k ih =>
    intro hk
    rw [ha k hk, hb k hk]
    congr 1
    refine nh_x_cg (fun e he q => ?_)
    have h1 := hl e he
    try dsimp only
    rw [ih (src e) (by omega) (by omega)]
theorem nh_T01 {nc lc : Nat} {gt src : Nat → Nat} {lw so fi sp : Nat → Int32} {mk t : Int32} {ta : Nat → Int32} (ha : rl_T nc lc gt src lw so fi sp mk t ta) {k : Nat} (hk : k < nc) : ta k = 0 ∨ ta k = 1 := by
  rw [ha k hk]; exact nh_v01 _ _ _ _ _ _ _
/-- one node's turn, link by link: links from m on see the new value -/
def nh_m (src : Nat → Nat) (ta : Nat → Int32) (k : Nat) (v : Int32) (m : Nat) : Nat → Int32 := fun e => if m ≤ e ∧ src e = k then v else ta (src e)
theorem nh_m0 {src : Nat → Nat} {ta : Nat → Int32} {k m : Nat} {v : Int32} {gt : Nat → Nat} {lw : Nat → Int32} {g n : Nat} (h : ∀ e, e < m → src e ≠ k) : nh_x gt lw (nh_m src ta k v m) g n = nh_x gt lw (fun e => upd ta k v (src e)) g n := by
  refine nh_x_cg (fun e he q => ?_)
  have : nh_m src ta k v m e = upd ta k v (src e) := by
    unfold nh_m
    by_cases z : src e = k
    · have h2 : m ≤ e := by
        rcases Nat.lt_or_ge e m with w | w
        · exact absurd z (h e w)
        · exact w
      rw [if_pos ⟨h2, z⟩, z, pk_us]
    · rw [if_neg (fun w => z w.2), pk_un z]
  rw [this]
theorem nh_mn {src : Nat → Nat} {ta : Nat → Int32} {k m n : Nat} {v : Int32} {gt : Nat → Nat} {lw : Nat → Int32} {g : Nat} (h : n ≤ m) : nh_x gt lw (nh_m src ta k v m) g n = nh_x gt lw (fun e => ta (src e)) g n := by
  refine nh_x_cg (fun e he q => ?_)
  have : nh_m src ta k v m e = ta (src e) := by
    unfold nh_m
    rw [if_neg (fun w => by omega)]
  rw [this]
theorem nh_ms {src : Nat → Nat} {ta : Nat → Int32} {k m e n : Nat} {v : Int32} {gt : Nat → Nat} {lw : Nat → Int32} {g : Nat} (hn : m ≤ n) (he : e < m) (hs : src e = k) (hb : ∀ e', e < e' → e' < m → src e' ≠ k) (c : Int32)
    (hc : (ta k = 0 ∧ ¬ v = 0 ∧ c = lw e) ∨ (¬ ta k = 0 ∧ v = 0 ∧ c = -lw e)) :
    nh_x gt lw (nh_m src ta k v e) g n = (if g = gt e then nh_x gt lw (nh_m src ta k v m) g n + c else nh_x gt lw (nh_m src ta k v m) g n) := by
  have hne : ∀ i, i ≠ e → nh_m src ta k v e i = nh_m src ta k v m i := by
    intro i hi
    unfold nh_m
    by_cases z : src i = k
    · by_cases w : m ≤ i
      · rw [if_pos ⟨by omega, z⟩, if_pos ⟨w, z⟩]
      · have w2 : ¬ e ≤ i := by
          intro w3
          exact hb i (by omega) (by omega) z
        rw [if_neg (fun q => w2 q.1), if_neg (fun q => w q.1)]
    · rw [if_neg (fun q => z q.2), if_neg (fun q => z q.2)]
  have e1 : nh_m src ta k v e e = v := by unfold nh_m; rw [if_pos ⟨Nat.le_refl _, hs⟩]
  have e2 : nh_m src ta k v m e = ta k := by unfold nh_m; rw [if_neg (fun w => by omega), hs]
  by_cases hg : g = gt e
  · rw [if_pos hg]
    unfold nh_x
    refine es_i_ad (k := e) (by omega) (fun i hi hie => ?_) ?_
    · rw [hne i hie]
    · skip
      rw [e1, e2]
      rcases hc with ⟨h1, h2, h3⟩ | ⟨h1, h2, h3⟩
      · rw [if_pos ⟨hg.symm, h2⟩, if_neg (fun w => w.2 h1), h3, Int32.zero_add]
      · rw [if_neg (fun w => w.2 h2), if_pos ⟨hg.symm, h1⟩, h3, Int32.add_right_neg]
  · rw [if_neg hg]
    unfold nh_x
    refine es_i_cg n (fun i hi => ?_)
    try dsimp only
    by_cases hie : i = e
    · rw [hie, if_neg (fun w => hg w.1.symm), if_neg (fun w => hg w.1.symm)]
    · rw [hne i hie]
end NH
end
section
section XN
variable {A nc lc dc ec dp T : Nat} {hsm mk dy tc mv ws wd : Int32} {so fi sp sc ip it fl wa lg lw ln pr pe am xr xf st ba wt ki ow su dl da ch di md iN iW nw yr yf : Nat → Int32} {ni gt src : Nat → Nat}
/-- what a link's place must say -/
def rl_G (nc lc : Nat) (gt src : Nat → Nat) (fl lg ln : Nat → Int32) : Prop :=
  lc ≤ 144 ∧ (∀ e, e < lc → lg e = nI (gt e) ∧ src e < gt e ∧ gt e < nc) ∧ (∀ e, e < lc → ln e = el_a src (src e) e) ∧ (∀ k, k < nc → fl k = el_a src k lc)
theorem xn_phase {post : Int32 → Prop} {k : Nat} (hk : k < 24) (hp : ¬ fi k ≤ 0) (K : post (nI T - nI T / fi k * fi k)) : wpX_phase post ((nI A), (nI nc), (nI lc), (nI dc), (nI ec), (nI dp), hsm, mk, dy, tc, mv, (nI T), ws, wd, so, fi, sp, sc, ip, it, fl, wa, lg, lw, ln, pr, pe, am, xr, xf, st, ba, wt, ki, ow, su, dl, da, ch, di) (nI k) := by
  have c : (nI k).toNatClampNeg = k := nI_clamp (by omega)
  exact And.intro (vp_in_nI hk (by omega)) (nm_r (congrArg fi c) (br_f hp ⟨fun z => hp (by rw [z]; decide), K⟩))
theorem xn_holds {post : Int32 → Prop} {k : Nat} (hk : k < 24) (hp : so k = 2 → ¬ fi k ≤ 0) (K : post (nh_v so fi sp mk (nI T) (sc k) k)) : wpX_holds post ((nI A), (nI nc), (nI lc), (nI dc), (nI ec), (nI dp), hsm, mk, dy, tc, mv, (nI T), ws, wd, so, fi, sp, sc, ip, it, fl, wa, lg, lw, ln, pr, pe, am, xr, xf, st, ba, wt, ki, ow, su, dl, da, ch, di) (nI k) := by
  have c : (nI k).toNatClampNeg = k := nI_clamp (by omega)
  have hi : vp_in (nI k) 24 := vp_in_nI hk (by omega)
  unfold wpX_holds
  try dsimp only
  rw [c]
  unfold nh_v at K
  by_cases h0 : so k = 0
  · rw [if_pos h0] at K
    exact ⟨hi, br_t h0 ⟨hi, br_c (fun h => by rwa [if_pos h] at K) (fun h => by rwa [if_neg h] at K)⟩⟩
  · rw [if_neg h0] at K
    by_cases h1 : so k = 1
    · rw [if_pos h1] at K
      exact ⟨hi, br_f h0 ⟨hi, br_t h1 ⟨hi, br_c (fun h => by rwa [if_pos h] at K) (fun h => by rwa [if_neg h] at K)⟩⟩⟩
    · rw [if_neg h1] at K
      by_cases h2 : so k = 2
      · rw [if_pos h2] at K
        exact ⟨hi, br_f h0 ⟨hi, br_f h1 ⟨hi, br_t h2 (xn_phase hk (hp h2) ⟨hi, br_c (fun h => by rwa [if_pos h] at K) (fun h => by rwa [if_neg h] at K)⟩)⟩⟩⟩
      · rw [if_neg h2] at K
        exact ⟨hi, br_f h0 ⟨hi, br_f h1 ⟨hi, br_f h2 ⟨hi, hi, br_c (fun h => by rwa [if_pos h] at K) (fun h => by rwa [if_neg h] at K)⟩⟩⟩⟩
theorem xn_hl {post : SX → Prop} {k : Nat} {v : Int32} {ta : Nat → Int32} (hnc : nc ≤ 24) (hG : rl_G nc lc gt src fl lg ln)
    (hv : (ta k = 0 ∧ ¬ v = 0) ∨ (¬ ta k = 0 ∧ v = 0))
    (K : ∀ (sc' : Nat → Int32) (dy' : Int32), (∀ g, sc' g = nh_x gt lw (fun e => upd ta k v (src e)) g lc) → (∀ j, j < 32 → bt dy j = true → bt dy' j = true) → (∀ e, e < lc → src e = k → bt dy' (gt e) = true) → post ((nI A), (nI nc), (nI lc), (nI dc), (nI ec), (nI dp), hsm, mk, dy', tc, mv, (nI T), ws, wd, so, fi, sp, sc', ip, it, fl, wa, lg, lw, ln, pr, pe, am, xr, xf, st, ba, wt, ki, ow, su, dl, da, ch, di)) :
    ∀ (n m s : Nat) (sc1 : Nat → Int32) (d1 : Int32), m ≤ lc → s + m ≤ 144 → m < n → (∀ g, sc1 g = nh_x gt lw (nh_m src ta k v m) g lc) → (∀ j, j < 32 → bt dy j = true → bt d1 j = true) → (∀ e, m ≤ e → e < lc → src e = k → bt d1 (gt e) = true) →
      wX_handOn_10 post v (nI A) (nI nc) (nI lc) (nI dc) (nI ec) (nI dp) hsm mk tc mv (nI T) ws wd n (el_a src k m) (nI s) d1 so fi sp sc1 ip it fl wa lg lw ln pr pe am xr xf st ba wt ki ow su dl da ch di := by
  obtain ⟨hlc, hlg, hln, hfl⟩ := hG
  intro n
  induction n with
  | zero => intro m s sc1 d1 _ _ h; exact absurd h (by omega)
  | succ n ih =>
    intro m s sc1 d1 hm hs4 hmn hsc hdy hpr
    rcases el_a_c src k m with ⟨e1, e2⟩ | ⟨e, he, hs, e1, hb⟩
    · rw [e1]
      have Kf := K sc1 d1 (fun g => by rw [hsc g]; exact nh_m0 e2) hdy (fun e he hk => by
          rcases Nat.lt_or_ge e m with w | w
          · exact absurd hk (e2 e w)
          · exact hpr e w he hk)
      exact br_c (fun _ => Kf) (fun _ => br_t (by decide) Kf)
    · rw [e1]
      obtain ⟨g1, g2, g3⟩ := hlg e (by omega)
      have ce : (nI e).toNatClampNeg = e := nI_clamp (by omega)
      have cg : (nI (gt e)).toNatClampNeg = gt e := nI_clamp (by omega)
      have ie : vp_in (nI e) 144 := vp_in_nI (by omega) (by omega)
      have ig : vp_in (nI (gt e)) 24 := vp_in_nI (by omega) (by omega)
      have step : ∀ c : Int32, ((ta k = 0 ∧ ¬ v = 0 ∧ c = lw e) ∨ (¬ ta k = 0 ∧ v = 0 ∧ c = -lw e)) →
          wX_handOn_58 post (wX_handOn_10 post v (nI A) (nI nc) (nI lc) (nI dc) (nI ec) (nI dp) hsm mk tc mv (nI T) ws wd n) v (nI e) (nI s) (nI (gt e)) c (sc1 (gt e)) (nI (gt e)) (nI A) (nI nc) (nI lc) (nI dc) (nI ec) (nI dp) hsm mk d1 tc mv (nI T) ws wd so fi sp sc1 ip it fl wa lg lw ln pr pe am xr xf st ba wt ki ow su dl da ch di := by
        intro c hc
        refine And.intro ig (nm_r (e' := upd sc1 (gt e) (sc1 (gt e) + c)) (by rw [cg]) (nm_e (And.intro ie (nm_r (e' := el_a src k e) (by rw [ce, hln e (by omega), hs]) (nm_r (nI_1 s) (ih e (s + 1) _ _ (by omega) (by omega) (by omega) ?_ ?_ ?_))))))
        · intro g
          rw [nh_ms (gt := gt) (lw := lw) (g := g) (n := lc) hm he hs hb c hc]
          by_cases q : g = gt e
          · rw [if_pos q, q, pk_us, hsc]
          · rw [if_neg q, pk_un q, hsc]
        · intro j hj hb1
          rw [eb_set d1 (by omega) hj, hdy j hj hb1]; rfl
        · intro e' h1 h2 h3
          have g4 := (hlg e' h2).2.2
          rw [eb_set d1 (by omega) (by omega)]
          by_cases q : e' = e
          · rw [q, decide_eq_true rfl, Bool.or_true]
          · rcases Nat.lt_or_ge e' m with w | w
            · exact absurd h3 (hb e' (by omega) w)
            · rw [hpr e' w h2 h3]; rfl
      refine br_f (nI_ge (b := 144) (by omega) (by decide)) (br_f (nI_pos (by omega)) (And.intro ie (nm_r (e' := nI (gt e)) (by rw [ce]; exact g1) (And.intro ig (br_c (fun hv0 => And.intro ie ?_) (fun hv1 => And.intro ie ?_))))))
      · rw [ce, cg]
        refine step _ ?_
        rcases hv with h | h
        · exact absurd hv0 h.2
        · exact Or.inr ⟨h.1, h.2, rfl⟩
      · rw [ce, cg]
        refine step _ ?_
        rcases hv with h | h
        · exact Or.inl ⟨h.1, h.2, rfl⟩
        · exact absurd h.2 hv1
theorem xn_hand {post : SX → Prop} {k : Nat} {v : Int32} {ta : Nat → Int32} (hnc : nc ≤ 24) (hk : k < nc) (hG : rl_G nc lc gt src fl lg ln)
    (hv : (ta k = 0 ∧ ¬ v = 0) ∨ (¬ ta k = 0 ∧ v = 0)) (hsc : ∀ g, sc g = nh_x gt lw (fun e => ta (src e)) g lc)
    (K : ∀ (sc' : Nat → Int32) (dy' : Int32), (∀ g, sc' g = nh_x gt lw (fun e => upd ta k v (src e)) g lc) → (∀ j, j < 32 → bt dy j = true → bt dy' j = true) → (∀ e, e < lc → src e = k → bt dy' (gt e) = true) → post ((nI A), (nI nc), (nI lc), (nI dc), (nI ec), (nI dp), hsm, mk, dy', tc, mv, (nI T), ws, wd, so, fi, sp, sc', ip, it, fl, wa, lg, lw, ln, pr, pe, am, xr, xf, st, ba, wt, ki, ow, su, dl, da, ch, di)) :
    wpX_handOn post ((nI A), (nI nc), (nI lc), (nI dc), (nI ec), (nI dp), hsm, mk, dy, tc, mv, (nI T), ws, wd, so, fi, sp, sc, ip, it, fl, wa, lg, lw, ln, pr, pe, am, xr, xf, st, ba, wt, ki, ow, su, dl, da, ch, di) (nI k) v := by
  have c : (nI k).toNatClampNeg = k := nI_clamp (by omega)
  exact And.intro (vp_in_nI (by omega) (by omega)) (nm_r (e' := el_a src k lc) (by rw [c]; exact hG.2.2.2 k hk)
    ⟨lc + 1, xn_hl hnc hG hv K (lc + 1) lc 0 sc dy (Nat.le_refl _) (by have := hG.1; omega) (by omega) (fun g => by rw [hsc g]; exact (nh_mn (Nat.le_refl _)).symm) (fun j _ h => h) (fun e h1 h2 _ => absurd h2 (by omega))⟩)
theorem xn_pl {post : SX → Prop} {it0 : Nat → Int32} {tc0 : Int32} (hnc : nc ≤ 24) (hwin : ∀ k, k < nc → so k = 2 → ¬ fi k ≤ 0) (hG : rl_G nc lc gt src fl lg ln)
    (K : ∀ (it' sc' : Nat → Int32) (tc' : Int32), (∀ g, sc' g = nh_x gt lw (fun e => it' (src e)) g lc) → rl_T nc lc gt src lw so fi sp mk (nI T) it' → (∀ d, d < 32 → bt tc' d = false → bt tc0 d = false ∧ ∀ j, j < nc → bt (wa j) d = true → it' j = it0 j) → post ((nI A), (nI nc), (nI lc), (nI dc), (nI ec), (nI dp), hsm, mk, 0, tc', mv, (nI T), ws, wd, so, fi, sp, sc', ip, it', fl, wa, lg, lw, ln, pr, pe, am, xr, xf, st, ba, wt, ki, ow, su, dl, da, ch, di)) :
    ∀ (n k : Nat) (it1 sc1 : Nat → Int32) (d1 t1 : Int32), k ≤ nc → nc < n + k →
      (∀ g, sc1 g = nh_x gt lw (fun e => it1 (src e)) g lc) → (∀ j, j < nc → it1 j = 0 ∨ it1 j = 1) →
      (∀ j, j < nc → (j < k ∨ bt d1 j = false) → it1 j = nh_v so fi sp mk (nI T) (nh_x gt lw (fun e => it1 (src e)) j lc) j) →
      (∀ d, d < 32 → bt t1 d = false → bt tc0 d = false ∧ ∀ j, j < nc → bt (wa j) d = true → it1 j = it0 j) →
      wX_propagate_2 post n (nI k) (nI A) (nI nc) (nI lc) (nI dc) (nI ec) (nI dp) hsm mk d1 t1 mv (nI T) ws wd so fi sp sc1 ip it1 fl wa lg lw ln pr pe am xr xf st ba wt ki ow su dl da ch di := by
  intro n
  induction n with
  | zero => intro k it1 sc1 d1 t1 h1 h2; exact absurd h1 (by omega)
  | succ n ih =>
    intro k it1 sc1 d1 t1 hk hn hsc h01 hdn htc
    by_cases hkn : k = nc
    · subst hkn
      exact br_t (nI_le (Nat.le_refl _) (by omega)) (K it1 sc1 t1 hsc (fun j hj => hdn j hj (Or.inl hj)) htc)
    · have hk2 : k < nc := by omega
      have c : (nI k).toNatClampNeg = k := nI_clamp (by omega)
      have ik : vp_in (nI k) 24 := vp_in_nI (by omega) (by omega)
      refine br_f (nI_ge (by omega) (by omega)) ?_
      by_cases hb : bt d1 k = true
      · refine br_t ((eb_t1 d1 (by omega)).mpr hb) (xn_holds (by omega) (hwin k hk2) (And.intro ik ?_))
        rw [c]
        generalize hr : nh_v so fi sp mk (nI T) (sc1 k) k = r
        rw [hsc k] at hr
        have r01 : r = 0 ∨ r = 1 := by rw [← hr]; exact nh_v01 _ _ _ _ _ _ _
        refine br_c (fun e1 => ?_) (fun e1 => ?_)
        · refine nm_r (nI_1 k) (ih (k + 1) it1 sc1 d1 t1 (by omega) (by omega) hsc h01 (fun j hj h => ?_) htc)
          by_cases q : j = k
          · rw [q, ← e1, ← hr]
          · rcases h with h | h
            · exact hdn j hj (Or.inl (by omega))
            · exact hdn j hj (Or.inr h)
        · have hv : (it1 k = 0 ∧ ¬ r = 0) ∨ (¬ it1 k = 0 ∧ r = 0) := by
            rcases r01 with h | h
            · exact Or.inr ⟨fun w => e1 (by rw [h, w]), h⟩
            · rcases h01 k hk2 with w | w
              · exact Or.inl ⟨w, by rw [h]; decide⟩
              · exact absurd (by rw [h, w]) e1
          refine And.intro ik (nm_r (e' := upd it1 k r) (by rw [en_b r01]) (And.intro ik (nm_r (e' := t1 ||| wa k) rfl ?_)))
          refine xn_hand (ta := it1) hnc hk2 hG hv hsc (fun sc' dy' hs' hd1 hd2 => ?_)
          refine nm_r (nI_1 k) (ih (k + 1) (upd it1 k r) sc' dy' (t1 ||| wa k) (by omega) (by omega) hs' (fun j hj => ?_) (fun j hj h => ?_) (fun d hd hb2 => ?_))
          · by_cases q : j = k
            · rw [q, pk_us]; exact r01
            · rw [pk_un q]; exact h01 j hj
          · have hx : (j ≤ k ∨ bt dy' j = false) → nh_x gt lw (fun e => upd it1 k r (src e)) j lc = nh_x gt lw (fun e => it1 (src e)) j lc := by
              intro w
              refine nh_x_cg (fun e he hg => ?_)
              have := (hG.2.1 e he).2.1
              have q : src e ≠ k := by
                intro q
                rcases w with w | w
                · omega
                · have := hd2 e he q
                  rw [hg, w] at this
                  exact absurd this (by decide)
              try dsimp only
              rw [pk_un q]
            by_cases q : j = k
            · rw [hx (Or.inl (by omega)), q, pk_us, hr]
            · rw [pk_un q]
              rcases h with h | h
              · rw [hx (Or.inl (by omega))]
                exact hdn j hj (Or.inl (by omega))
              · rw [hx (Or.inr h)]
                refine hdn j hj (Or.inr (eb_f (fun w => ?_)))
                rw [hd1 j (by omega) w] at h
                exact absurd h (by decide)
          · rw [b_or] at hb2
            have g1 : bt t1 d = false := by cases w : bt t1 d; rfl; rw [w] at hb2; exact absurd hb2 (by simp)
            have g2 : bt (wa k) d = false := by cases w : bt (wa k) d; rfl; rw [w, Bool.or_true] at hb2; exact absurd hb2 (by simp)
            refine ⟨(htc d hd g1).1, fun j hj w => ?_⟩
            have q : j ≠ k := by intro q; rw [q, g2] at w; exact absurd w (by decide)
            rw [pk_un q]
            exact (htc d hd g1).2 j hj w
      · have hb2 : bt d1 k = false := eb_f hb
        refine br_f (fun w => hb ((eb_t1 d1 (by omega)).mp w)) (nm_r (nI_1 k) (ih (k + 1) it1 sc1 d1 t1 (by omega) (by omega) hsc h01 (fun j hj h => ?_) htc))
        by_cases q : j = k
        · rw [q]; exact hdn k hk2 (Or.inr hb2)
        · rcases h with h | h
          · exact hdn j hj (Or.inl (by omega))
          · exact hdn j hj (Or.inr h)
theorem xn_prop {post : SX → Prop} (hnc : nc ≤ 24) (hwin : ∀ k, k < nc → so k = 2 → ¬ fi k ≤ 0) (hG : rl_G nc lc gt src fl lg ln)
    (hsc : ∀ g, sc g = nh_x gt lw (fun e => it (src e)) g lc) (h01 : ∀ j, j < nc → it j = 0 ∨ it j = 1)
    (hdn : ∀ j, j < nc → bt dy j = false → it j = nh_v so fi sp mk (nI T) (nh_x gt lw (fun e => it (src e)) j lc) j)
    (K : ∀ (it' sc' : Nat → Int32) (tc' : Int32), (∀ g, sc' g = nh_x gt lw (fun e => it' (src e)) g lc) → rl_T nc lc gt src lw so fi sp mk (nI T) it' → (∀ d, d < 32 → bt tc' d = false → bt tc d = false ∧ ∀ j, j < nc → bt (wa j) d = true → it' j = it j) → post ((nI A), (nI nc), (nI lc), (nI dc), (nI ec), (nI dp), hsm, mk, 0, tc', mv, (nI T), ws, wd, so, fi, sp, sc', ip, it', fl, wa, lg, lw, ln, pr, pe, am, xr, xf, st, ba, wt, ki, ow, su, dl, da, ch, di)) :
    wpX_propagate post ((nI A), (nI nc), (nI lc), (nI dc), (nI ec), (nI dp), hsm, mk, dy, tc, mv, (nI T), ws, wd, so, fi, sp, sc, ip, it, fl, wa, lg, lw, ln, pr, pe, am, xr, xf, st, ba, wt, ki, ow, su, dl, da, ch, di) :=
  Exists.intro (nc + 1) (xn_pl hnc hwin hG K (nc + 1) 0 it sc dy tc (by omega) (by omega) hsc h01 (fun j hj h => hdn j hj (h.resolve_left (by omega))) (fun d _ h => ⟨h, fun _ _ _ => rfl⟩))
end XN
end
section
section YN
variable {A nc lc dc ec dp T : Nat} {hsm mk dy tc mv ws wd : Int32} {so fi sp sc ip it fl wa lg lw ln pr pe am xr xf st ba wt ki ow su dl da ch di md iN iW nw yr yf : Nat → Int32} {ni gt src : Nat → Nat}
def rl_N (nc : Nat) (so fi sp : Nat → Int32) : Prop :=
  nc ≤ 24 ∧ ∀ k, k < nc → (so k = 0 ∧ ∃ s, s < 8 ∧ fi k = nI s) ∨ (so k = 1 ∧ ∃ d, d ≤ 1000 ∧ fi k = nI d) ∨ (so k = 2 ∧ ∃ p o, 2 ≤ p ∧ p ≤ 20 ∧ 1 ≤ o ∧ o < p ∧ fi k = nI p ∧ sp k = nI o) ∨ so k = 3
def rl_M (mk : Int32) (md : Nat → Int32) : Prop := ∀ s, s < 8 → md s = if bt mk s = true then 1 else 0
def rl_I (lc : Nat) (ni gt src : Nat → Nat) (lw iN iW : Nat → Int32) : Prop :=
  (∀ g j, j < ni g → ∃ s, s < g ∧ iN (6 * g + j) = nI s) ∧ (∀ (g : Nat) (t : Nat → Int32), nh_y iN iW t g (ni g) = nh_x gt lw (fun e => t (src e)) g lc)
theorem yn_win (hN : rl_N nc so fi sp) : ∀ k, k < nc → so k = 2 → ¬ fi k ≤ 0 := by
  intro k hk h2
  rcases hN.2 k hk with ⟨h, _⟩ | ⟨h, _⟩ | ⟨h, p, o, h3, h4, _, _, h5, _⟩ | h
  · rw [h] at h2; exact absurd h2 (by decide)
  · rw [h] at h2; exact absurd h2 (by decide)
  · rw [h5]; exact nI_nle (by omega) (by omega)
  · rw [h] at h2; exact absurd h2 (by decide)
theorem yn_sl {post : Int32 → Prop} {g : Nat} (hg : g < 24) (hni : ip g = nI (ni g)) (h6 : ni g ≤ 6) (hin : ∀ j, j < ni g → ∃ s, s < g ∧ iN (6 * g + j) = nI s) (K : post (nh_y iN iW nw g (ni g))) :
    ∀ (n j : Nat), j ≤ ni g → ni g < n + j → wY_scoreOf_4 post (nI g) (nI A) (nI T) (nI nc) (nI dc) (nI dp) (nI ec) ba md so fi sp ip iN iW nw pr pe am yr yf st ki ow su dl da n (nh_y iN iW nw g j) (nI j) := by
  intro n
  induction n with
  | zero => intro j h1 h2; exact absurd h1 (by omega)
  | succ n ih =>
    intro j hj hn
    have cg : (nI g).toNatClampNeg = g := nI_clamp (by omega)
    refine And.intro (vp_in_nI hg (by omega)) ?_
    rw [cg, hni]
    by_cases q : j = ni g
    · rw [q]
      exact br_t (nI_le (Nat.le_refl _) (by omega)) K
    · have e6 : (6 : Int32) * nI g + nI j = nI (6 * g + j) := by rw [show (6 : Int32) = nI 6 from rfl, pk_mul, nI_add]
      have c6 : (nI (6 * g + j)).toNatClampNeg = 6 * g + j := nI_clamp (by omega)
      have i6 : vp_in (nI (6 * g + j)) 144 := vp_in_nI (by omega) (by omega)
      obtain ⟨s, hs, es⟩ := hin j (by omega)
      have cs : (nI s).toNatClampNeg = s := nI_clamp (by omega)
      refine br_f (nI_ge (by omega) (by omega)) (br_f (nI_ge (b := 6) (by omega) (by decide)) ?_)
      rw [e6, c6]
      refine And.intro i6 (nm_r es (And.intro (vp_in_nI (by omega) (by omega)) ?_))
      rw [cs]
      have hst : nh_y iN iW nw g (j + 1) = nh_y iN iW nw g j + (if nw s = 0 then 0 else iW (6 * g + j)) := by
        show es_i _ (j + 1) = _
        rw [es_i_s]
        show _ + (if nw (iN (6 * g + j)).toNatClampNeg = 0 then 0 else iW (6 * g + j)) = _
        rw [es, cs]
        rfl
      refine br_c (fun h => nm_r (nI_1 j) ?_) (fun h => And.intro i6 (nm_r (e' := nh_y iN iW nw g (j + 1)) ?_ (nm_r (nI_1 j) ?_)))
      · have := ih (j + 1) (by omega) (by omega)
        rw [hst, if_pos h, Int32.add_zero] at this
        exact this
      · rw [hst, if_neg h]
      · exact ih (j + 1) (by omega) (by omega)
theorem yn_score {post : Int32 → Prop} {g : Nat} (hg : g < 24) (hip : ∀ g, ip g = nI (ni g) ∧ ni g ≤ 6) (hI : rl_I lc ni gt src lw iN iW) (K : post (nh_x gt lw (fun e => nw (src e)) g lc)) : wpY_scoreOf post ((nI A), (nI T), (nI nc), (nI dc), (nI dp), (nI ec), ba, md, so, fi, sp, ip, iN, iW, nw, pr, pe, am, yr, yf, st, ki, ow, su, dl, da) (nI g) :=
  Exists.intro (ni g + 1) (yn_sl hg (hip g).1 (hip g).2 (hI.1 g) (by rw [hI.2]; exact K) (ni g + 1) 0 (by omega) (by omega))
theorem yn_wl {day : Nat} (hd : day < 100000) (hN : rl_N nc so fi sp) (hM : rl_M mk md) (hip : ∀ g, ip g = nI (ni g) ∧ ni g ≤ 6) (hI : rl_I lc ni gt src lw iN iW) (hl : ∀ e, e < lc → src e < gt e) :
    ∀ (n k : Nat) (nw1 : Nat → Int32), k ≤ nc → nc < n + k → (∀ j, j < k → nw1 j = nh_v so fi sp mk (nI day) (nh_x gt lw (fun e => nw1 (src e)) j lc) j) →
      ∃ nw' : Nat → Int32, rl_T nc lc gt src lw so fi sp mk (nI day) nw' ∧ ∀ post : SY → Prop, post ((nI A), (nI T), (nI nc), (nI dc), (nI dp), (nI ec), ba, md, so, fi, sp, ip, iN, iW, nw', pr, pe, am, yr, yf, st, ki, ow, su, dl, da) → wY_workOut_2 post (nI day) (nI A) (nI T) (nI nc) (nI dc) (nI dp) (nI ec) n (nI k) ba md so fi sp ip iN iW nw1 pr pe am yr yf st ki ow su dl da := by
  have hnc := hN.1
  intro n
  induction n with
  | zero => intro k nw1 h1 h2; exact absurd h1 (by omega)
  | succ n ih =>
    intro k nw1 hk hn hdn
    by_cases hkn : k = nc
    · subst hkn
      exact ⟨nw1, hdn, fun post hp => br_t (nI_le (Nat.le_refl _) (by omega)) hp⟩
    · have hk2 : k < nc := by omega
      have c : (nI k).toNatClampNeg = k := nI_clamp (by omega)
      have ik : vp_in (nI k) 24 := vp_in_nI (by omega) (by omega)
      have pre := ih (k + 1) (upd nw1 k (nh_v so fi sp mk (nI day) (nh_x gt lw (fun e => nw1 (src e)) k lc) k)) (by omega) (by omega) (fun j hj => by
        have hx : ∀ r : Int32, nh_x gt lw (fun e => upd nw1 k r (src e)) j lc = nh_x gt lw (fun e => nw1 (src e)) j lc := by
          intro r
          refine nh_x_cg (fun e he hg => ?_)
          have := hl e he
          try dsimp only
          rw [pk_un (by omega)]
        rw [hx]
        by_cases q : j = k
        · rw [q, pk_us]
        · rw [pk_un q]; exact hdn j (by omega))
      obtain ⟨nw', hn1, hn2⟩ := pre
      refine ⟨nw', hn1, fun post hp => ?_⟩
      have nxt : ∀ r : Int32, r = nh_v so fi sp mk (nI day) (nh_x gt lw (fun e => nw1 (src e)) k lc) k → wY_workOut_2 post (nI day) (nI A) (nI T) (nI nc) (nI dc) (nI dp) (nI ec) n (nI (k + 1)) ba md so fi sp ip iN iW (upd nw1 k r) pr pe am yr yf st ki ow su dl da := by
        intro r hr
        rw [hr]
        exact hn2 post hp
      refine br_f (nI_ge (by omega) (by omega)) (br_f (nI_ge (b := 24) (by omega) (by decide)) (And.intro ik ?_))
      rw [c]
      rcases hN.2 k hk2 with ⟨h0, s, hs, es⟩ | ⟨h1, d, hdd, ed⟩ | ⟨h2, p, o, p2, p20, o1, op, ep, eo⟩ | h3
      · have e7 : fi k &&& 7 = nI s := by
          rw [es, pk_andN (by omega) 3 (by decide)]
          exact congrArg nI (by omega)
        have cs : (nI s).toNatClampNeg = s := nI_clamp (by omega)
        rw [e7, cs, hM s hs]
        have hv : (if bt mk s = true then (1 : Int32) else 0) = nh_v so fi sp mk (nI day) (nh_x gt lw (fun e => nw1 (src e)) k lc) k := by
          unfold nh_v
          rw [if_pos h0, es, eb_tst mk (by omega)]
          cases bt mk s
          · rfl
          · rfl
        rw [en_b (by cases bt mk s; exact Or.inl rfl; exact Or.inr rfl)]
        exact br_t h0 (And.intro ik (And.intro (vp_in_nI hs (by omega)) (And.intro ik (nm_e (nm_r (nI_1 k) (nxt _ hv))))))
      · have n0 : ¬ so k = 0 := by rw [h1]; decide
        rw [en_b0, en_b1]
        refine br_f n0 (And.intro ik (br_t h1 (And.intro ik (br_c (fun h => And.intro ik (nm_e (nm_r (nI_1 k) (nxt _ ?_)))) (fun h => And.intro ik (nm_e (nm_r (nI_1 k) (nxt _ ?_))))))))
        · unfold nh_v; rw [if_neg n0, if_pos h1, if_pos h]
        · unfold nh_v; rw [if_neg n0, if_pos h1, if_neg h]
      · have n0 : ¬ so k = 0 := by rw [h2]; decide
        have n1 : ¬ so k = 1 := by rw [h2]; decide
        have g2 : (2 : Int32) ≤ fi k := by rw [ep]; exact nI_le (a := 2) p2 (by omega)
        have nz : ¬ fi k = 0 := by rw [ep]; exact nI_ne0 (by omega) (by omega)
        refine br_f n0 (And.intro ik (br_f n1 (And.intro ik (br_t h2 (And.intro ik (br_t g2 (And.intro ik ?_)))))))
        unfold wY_workOut_112
        rw [c, en_b0, en_b1]
        refine And.intro nz (And.intro ik (br_c (fun h => And.intro ik (nm_e (nm_r (nI_1 k) (nxt _ ?_)))) (fun h => And.intro ik (nm_e (nm_r (nI_1 k) (nxt _ ?_))))))
        · unfold nh_v; rw [if_neg n0, if_neg n1, if_pos h2, if_pos h]
        · unfold nh_v; rw [if_neg n0, if_neg n1, if_pos h2, if_neg h]
      · have n0 : ¬ so k = 0 := by rw [h3]; decide
        have n1 : ¬ so k = 1 := by rw [h3]; decide
        have n2 : ¬ so k = 2 := by rw [h3]; decide
        rw [en_b0, en_b1]
        refine br_f n0 (And.intro ik (br_f n1 (And.intro ik (br_f n2 (yn_score (by omega) hip hI (And.intro ik (br_c (fun h => And.intro ik (nm_e (nm_r (nI_1 k) (nxt _ ?_)))) (fun h => And.intro ik (nm_e (nm_r (nI_1 k) (nxt _ ?_)))))))))))
        · unfold nh_v; rw [if_neg n0, if_neg n1, if_neg n2, if_pos h]
        · unfold nh_v; rw [if_neg n0, if_neg n1, if_neg n2, if_neg h]
theorem yn_work {day : Nat} (hd : day < 100000) (hN : rl_N nc so fi sp) (hM : rl_M mk md) (hip : ∀ g, ip g = nI (ni g) ∧ ni g ≤ 6) (hI : rl_I lc ni gt src lw iN iW) (hl : ∀ e, e < lc → src e < gt e) :
    ∃ nw' : Nat → Int32, rl_T nc lc gt src lw so fi sp mk (nI day) nw' ∧ ∀ post : SY → Prop, post ((nI A), (nI T), (nI nc), (nI dc), (nI dp), (nI ec), ba, md, so, fi, sp, ip, iN, iW, nw', pr, pe, am, yr, yf, st, ki, ow, su, dl, da) → wpY_workOut post ((nI A), (nI T), (nI nc), (nI dc), (nI dp), (nI ec), ba, md, so, fi, sp, ip, iN, iW, nw, pr, pe, am, yr, yf, st, ki, ow, su, dl, da) (nI day) := by
  obtain ⟨nw', h1, h2⟩ := yn_wl (A := A) (T := T) (dc := dc) (dp := dp) (ec := ec) (ba := ba) (pr := pr) (pe := pe) (am := am) (yr := yr) (yf := yf) (st := st) (ki := ki) (ow := ow) (su := su) (dl := dl) (da := da) hd hN hM hip hI hl (nc + 1) 0 nw (by omega) (by omega) (fun j h => absurd h (by omega))
  exact ⟨nw', h1, fun post hp => Exists.intro (nc + 1) (h2 post hp)⟩
end YN
end
section
section DY
variable {A nc lc dc ec dp T : Nat} {hsm mk dy tc mv ws wd : Int32} {so fi sp sc ip it fl wa lg lw ln pr pe am xr xf st ba wt ki ow su dl da ch di md iN iW nw yr yf : Nat → Int32} {ni gt src : Nat → Nat}
/-- node k holds the same on every day from T to the day ahead of b -/
def rl_Z (so fi sp : Nat → Int32) (mk : Int32) (T b k : Nat) : Prop := ∀ t, T ≤ t → t < b → ∀ s : Int32, nh_v so fi sp mk (nI t) s k = nh_v so fi sp mk (nI T) s k
theorem dy_ind {t t' s : Int32} {k : Nat} (h1 : ¬ so k = 1) (h2 : ¬ so k = 2) : nh_v so fi sp mk t s k = nh_v so fi sp mk t' s k := by
  unfold nh_v
  rw [if_neg h1, if_neg h2, if_neg h1, if_neg h2]
theorem dy_T {b : Nat} {tb : Nat → Int32} (h : rl_T nc lc gt src lw so fi sp mk (nI T) tb) (hz : ∀ k, k < nc → rl_Z so fi sp mk T b k) {t : Nat} (h1 : T ≤ t) (h2 : t < b) : rl_T nc lc gt src lw so fi sp mk (nI t) tb := by
  intro k hk
  rw [hz k hk t h1 h2]
  exact h k hk
theorem dy_mod {p t : Nat} (h1 : T ≤ t) (h2 : t < T - T % p + p) (h0 : 0 < p) : t % p = T % p + (t - T) := by
  have e1 := Nat.div_add_mod T p
  have e2 : t = (T % p + (t - T)) + p * (T / p) := by omega
  have e3 := Nat.mod_lt T h0
  have e4 := Nat.mod_le T p
  rw [e2, Nat.add_mul_mod_self_left, Nat.mod_eq_of_lt (by omega)]
  omega
theorem dy_ncl {post : Int32 → Prop} (hT : T ≤ 3000) (hN : rl_N nc so fi sp)
    (K : ∀ R : Nat, T < R → R ≤ 1000000 → (∀ k, k < nc → rl_Z so fi sp mk T R k) → post (nI R)) :
    ∀ (n k b : Nat), k ≤ nc → nc < n + k → T < b → b ≤ 1000000 → (∀ j, j < k → rl_Z so fi sp mk T b j) → wX_nextChange_5 post (nI A) (nI nc) (nI lc) (nI dc) (nI ec) (nI dp) hsm mk dy tc mv (nI T) ws wd so fi sp sc ip it fl wa lg lw ln pr pe am xr xf st ba wt ki ow su dl da ch di n (nI b) (nI k) := by
  have hnc := hN.1
  intro n
  induction n with
  | zero => intro k b h1 h2; exact absurd h1 (by omega)
  | succ n ih =>
    intro k b hk hn hb1 hb2 hz
    by_cases hkn : k = nc
    · subst hkn
      exact br_t (nI_le (Nat.le_refl _) (by omega)) (K b hb1 hb2 hz)
    · have hk2 : k < nc := by omega
      have c : (nI k).toNatClampNeg = k := nI_clamp (by omega)
      have ik : vp_in (nI k) 24 := vp_in_nI (by omega) (by omega)
      have fin : ∀ R : Nat, T < R → R ≤ 1000000 → rl_Z so fi sp mk T R k → wX_nextChange_98 post (wX_nextChange_5 post (nI A) (nI nc) (nI lc) (nI dc) (nI ec) (nI dp) hsm mk dy tc mv (nI T) ws wd so fi sp sc ip it fl wa lg lw ln pr pe am xr xf st ba wt ki ow su dl da ch di n) (nI b) (nI k) (nI R) (nI A) (nI nc) (nI lc) (nI dc) (nI ec) (nI dp) hsm mk dy tc mv (nI T) ws wd so fi sp sc ip it fl wa lg lw ln pr pe am xr xf st ba wt ki ow su dl da ch di := by
        intro R r1 r2 rz
        refine pk_le b R (fun h => nm_r (nI_1 k) (ih (k + 1) b (by omega) (by omega) hb1 hb2 (fun j hj => ?_))) (fun h => nm_r (nI_1 k) (ih (k + 1) R (by omega) (by omega) r1 r2 (fun j hj => ?_)))
        · by_cases q : j = k
          · rw [q]; intro t t1 t2; exact rz t t1 (by omega)
          · exact hz j (by omega)
        · by_cases q : j = k
          · rw [q]; exact rz
          · intro t t1 t2; exact hz j (by omega) t t1 (by omega)
      refine br_f (nI_ge (by omega) (by omega)) (And.intro ik ?_)
      rw [c]
      have hT2 : T < 1000000 := by omega
      rcases hN.2 k hk2 with ⟨h0, s, hs, es⟩ | ⟨h1, d, hdd, ed⟩ | ⟨h2, p, o, p2, p20, o1, op, ep, eo⟩ | h3
      · have n1 : ¬ so k = 1 := by rw [h0]; decide
        have n2 : ¬ so k = 2 := by rw [h0]; decide
        refine br_f n1 (And.intro ik ?_)
        rw [c]
        exact br_f n2 (fin 1000000 hT2 (Nat.le_refl _) (fun t _ _ s => dy_ind n1 n2))
      · have n0 : ¬ so k = 0 := by rw [h1]; decide
        have n2 : ¬ so k = 2 := by rw [h1]; decide
        refine br_t h1 (And.intro ik ?_)
        rw [ed]
        refine pk_le d T (fun h => And.intro ik ?_) (fun h => And.intro ik (nm_e (And.intro ik ?_)))
        · rw [c]
          refine br_f n2 (fin 1000000 hT2 (Nat.le_refl _) (fun t t1 t2 s => ?_))
          unfold nh_v
          rw [if_neg n0, if_pos h1, if_neg n0, if_pos h1, ed, if_neg (nI_nlt (by omega) (by omega)), if_neg (nI_nlt (by omega) (by omega))]
        · rw [c]
          refine br_f n2 (fin d h (by omega) (fun t t1 t2 s => ?_))
          unfold nh_v
          rw [if_neg n0, if_pos h1, if_neg n0, if_pos h1, ed, if_pos (nI_lt (by omega) (by omega)), if_pos (nI_lt (by omega) (by omega))]
      · have n0 : ¬ so k = 0 := by rw [h2]; decide
        have n1 : ¬ so k = 1 := by rw [h2]; decide
        have hp : ¬ fi k ≤ 0 := yn_win hN k hk2 h2
        have hm1 := Nat.mod_le T p
        have hm2 := Nat.mod_lt T (show 0 < p by omega)
        refine br_f n1 (And.intro ik ?_)
        rw [c]
        refine br_t h2 (xn_phase (by omega) hp (And.intro ik ?_))
        rw [eo, ep, pk_rem (by omega) (by omega) (by omega), pk_sub hm1]
        refine pk_le o (T % p) (fun h => And.intro ik (nm_r (nI_add _ _) (fin _ (by omega) (by omega) (fun t t1 t2 s => ?_)))) (fun h => And.intro ik (nm_r (nI_add _ _) (fin _ (by omega) (by omega) (fun t t1 t2 s => ?_))))
        · have e := dy_mod (T := T) (p := p) (t := t) t1 (by omega) (by omega)
          unfold nh_v
          rw [if_neg n0, if_neg n1, if_pos h2, if_neg n0, if_neg n1, if_pos h2, eo, ep, pk_rem (by omega) (by omega) (by omega), pk_rem (by omega) (by omega) (by omega), if_pos (nI_le (by omega) (by omega)), if_pos (nI_le (by omega) (by omega))]
        · have e := dy_mod (T := T) (p := p) (t := t) t1 (by omega) (by omega)
          unfold nh_v
          rw [if_neg n0, if_neg n1, if_pos h2, if_neg n0, if_neg n1, if_pos h2, eo, ep, pk_rem (by omega) (by omega) (by omega), pk_rem (by omega) (by omega) (by omega), if_neg (nI_ge (by omega) (by omega)), if_neg (nI_ge (by omega) (by omega))]
      · have n1 : ¬ so k = 1 := by rw [h3]; decide
        have n2 : ¬ so k = 2 := by rw [h3]; decide
        refine br_f n1 (And.intro ik ?_)
        rw [c]
        exact br_f n2 (fin 1000000 hT2 (Nat.le_refl _) (fun t _ _ s => dy_ind n1 n2))
theorem dy_nc {post : Int32 → Prop} (hT : T ≤ 3000) (hN : rl_N nc so fi sp)
    (K : ∀ R : Nat, T < R → R ≤ 1000000 → (∀ k, k < nc → rl_Z so fi sp mk T R k) → post (nI R)) : wpX_nextChange post ((nI A), (nI nc), (nI lc), (nI dc), (nI ec), (nI dp), hsm, mk, dy, tc, mv, (nI T), ws, wd, so, fi, sp, sc, ip, it, fl, wa, lg, lw, ln, pr, pe, am, xr, xf, st, ba, wt, ki, ow, su, dl, da, ch, di) :=
  Exists.intro (nc + 1) (dy_ncl hT hN K (nc + 1) 0 1000000 (by omega) (by omega) (by omega) (by omega) (fun j h => absurd h (by omega)))
theorem dy_gl {post : SX → Prop} {day : Nat} (hN : rl_N nc so fi sp) (hG : rl_G nc lc gt src fl lg ln)
    (hS : ∀ g, sc g = nh_x gt lw (fun e => it (src e)) g lc) (hTb : rl_T nc lc gt src lw so fi sp mk (nI T) it)
    (K : ∀ (it' sc' : Nat → Int32) (tc' : Int32), (∀ g, sc' g = nh_x gt lw (fun e => it' (src e)) g lc) → rl_T nc lc gt src lw so fi sp mk (nI day) it' → (∀ d, d < 32 → bt tc' d = false → bt tc d = false ∧ ∀ j, j < nc → bt (wa j) d = true → it' j = it j) → post ((nI A), (nI nc), (nI lc), (nI dc), (nI ec), (nI dp), hsm, mk, 0, tc', mv, (nI day), ws, wd, so, fi, sp, sc', ip, it', fl, wa, lg, lw, ln, pr, pe, am, xr, xf, st, ba, wt, ki, ow, su, dl, da, ch, di)) :
    ∀ (n k : Nat) (d1 : Int32), k ≤ nc → nc < n + k → (∀ j, j < k → (so j = 1 ∨ so j = 2) → bt d1 j = true) → wX_goTo_7 post (nI A) (nI nc) (nI lc) (nI dc) (nI ec) (nI dp) hsm mk tc mv (nI day) ws wd so fi sp sc ip it fl wa lg lw ln pr pe am xr xf st ba wt ki ow su dl da ch di n (nI k) d1 := by
  have hnc := hN.1
  intro n
  induction n with
  | zero => intro k d1 h1 h2; exact absurd h1 (by omega)
  | succ n ih =>
    intro k d1 hk hn hd
    by_cases hkn : k = nc
    · subst hkn
      refine br_t (nI_le (Nat.le_refl _) (by omega)) (xn_prop hnc (yn_win hN) hG hS (fun j hj => nh_T01 hTb hj) (fun j hj hb => ?_) (fun it' sc' tc' h1 h2 h3 => K it' sc' tc' h1 h2 h3))
      have n1 : ¬ so j = 1 := fun w => by rw [hd j hj (Or.inl w)] at hb; exact absurd hb (by decide)
      have n2 : ¬ so j = 2 := fun w => by rw [hd j hj (Or.inr w)] at hb; exact absurd hb (by decide)
      rw [dy_ind (t' := nI T) n1 n2]
      exact hTb j hj
    · have hk2 : k < nc := by omega
      have c : (nI k).toNatClampNeg = k := nI_clamp (by omega)
      have ik : vp_in (nI k) 24 := vp_in_nI (by omega) (by omega)
      have set : wX_goTo_35 post (wX_goTo_7 post (nI A) (nI nc) (nI lc) (nI dc) (nI ec) (nI dp) hsm mk tc mv (nI day) ws wd so fi sp sc ip it fl wa lg lw ln pr pe am xr xf st ba wt ki ow su dl da ch di n) (nI k) (nI A) (nI nc) (nI lc) (nI dc) (nI ec) (nI dp) hsm mk d1 tc mv (nI day) ws wd so fi sp sc ip it fl wa lg lw ln pr pe am xr xf st ba wt ki ow su dl da ch di := by
        refine nm_e (nm_r (nI_1 k) (ih (k + 1) _ (by omega) (by omega) (fun j hj h => ?_)))
        rw [eb_set d1 (by omega) (by omega)]
        by_cases q : j = k
        · rw [decide_eq_true q, Bool.or_true]
        · rw [hd j (by omega) h]; rfl
      refine br_f (nI_ge (by omega) (by omega)) (And.intro ik ?_)
      rw [c]
      refine br_c (fun _ => set) (fun n1 => And.intro ik (br_c (fun _ => set) (fun n2 => nm_r (nI_1 k) (ih (k + 1) d1 (by omega) (by omega) (fun j hj h => ?_)))))
      by_cases q : j = k
      · rw [q] at h
        rcases h with h | h
        · exact absurd h n1
        · exact absurd h n2
      · exact hd j (by omega) h
theorem dy_go {post : SX → Prop} {day : Nat} (hN : rl_N nc so fi sp) (hG : rl_G nc lc gt src fl lg ln)
    (hS : ∀ g, sc g = nh_x gt lw (fun e => it (src e)) g lc) (hTb : rl_T nc lc gt src lw so fi sp mk (nI T) it)
    (K : ∀ (it' sc' : Nat → Int32) (tc' : Int32), (∀ g, sc' g = nh_x gt lw (fun e => it' (src e)) g lc) → rl_T nc lc gt src lw so fi sp mk (nI day) it' → (∀ d, d < 32 → bt tc' d = false → bt tc d = false ∧ ∀ j, j < nc → bt (wa j) d = true → it' j = it j) → post ((nI A), (nI nc), (nI lc), (nI dc), (nI ec), (nI dp), hsm, mk, 0, tc', mv, (nI day), ws, wd, so, fi, sp, sc', ip, it', fl, wa, lg, lw, ln, pr, pe, am, xr, xf, st, ba, wt, ki, ow, su, dl, da, ch, di)) :
    wpX_goTo post ((nI A), (nI nc), (nI lc), (nI dc), (nI ec), (nI dp), hsm, mk, dy, tc, mv, (nI T), ws, wd, so, fi, sp, sc, ip, it, fl, wa, lg, lw, ln, pr, pe, am, xr, xf, st, ba, wt, ki, ow, su, dl, da, ch, di) (nI day) :=
  Exists.intro (nc + 1) (dy_gl hN hG hS hTb K (nc + 1) 0 dy (by omega) (by omega) (fun j h => absurd h (by omega)))
end DY
end
section
section TR
variable {A nc lc dc ec dp T : Nat} {hsm mk dy tc mv ws wd : Int32} {so fi sp sc ip it fl wa lg lw ln pr pe am xr xf st ba wt ki ow su dl da ch di md iN iW nw yr yf : Nat → Int32} {ni gt src : Nat → Nat}
/-! the tree over the entries, by leaf numbers (entry i is leaf 64 + i): pure -/
def tr_S (F : Nat → Int) : Nat → Nat → Int
  | 0, n => F n
  | h + 1, n => tr_S F h (2 * n) + tr_S F h (2 * n + 1)
def tr_M (F : Nat → Int) : Nat → Nat → Int
  | 0, n => min (F n) 0
  | h + 1, n => min (tr_M F h (2 * n)) (tr_S F h (2 * n) + tr_M F h (2 * n + 1))
theorem tr_Ss (F : Nat → Int) (h n : Nat) : tr_S F (h + 1) n = tr_S F h (2 * n) + tr_S F h (2 * n + 1) := rfl
theorem tr_Ms (F : Nat → Int) (h n : Nat) : tr_M F (h + 1) n = min (tr_M F h (2 * n)) (tr_S F h (2 * n) + tr_M F h (2 * n + 1)) := rfl
theorem tr_bd {F : Nat → Int} (hF : ∀ m, -1000 ≤ F m ∧ F m ≤ 1000) : ∀ h n, (-1000 * (2 : Int) ^ h ≤ tr_S F h n ∧ tr_S F h n ≤ 1000 * (2 : Int) ^ h) ∧ (-1000 * (2 : Int) ^ h ≤ tr_M F h n ∧ tr_M F h n ≤ 0) := by
  intro h
  induction h with
  | zero =>
    intro n
    have := hF n
    have e : (2 : Int) ^ 0 = 1 := rfl
    rw [e]
    show (_ ≤ F n ∧ F n ≤ _) ∧ (_ ≤ min (F n) 0 ∧ min (F n) 0 ≤ 0)
    omega
  | succ h ih =>
    intro n
    have h1 := ih (2 * n)
    have h2 := ih (2 * n + 1)
    have e : (2 : Int) ^ (h + 1) = 2 ^ h * 2 := Int.pow_succ 2 h
    rw [tr_Ss, tr_Ms, e]
    generalize (2 : Int) ^ h = P at h1 h2 ⊢
    omega
theorem tr_p6 : ∀ h, h ≤ 6 → (2 : Int) ^ h ≤ 64 := by decide
theorem tr_b6 {F : Nat → Int} (hF : ∀ m, -1000 ≤ F m ∧ F m ≤ 1000) {h : Nat} (h6 : h ≤ 6) (n : Nat) : (-64000 ≤ tr_S F h n ∧ tr_S F h n ≤ 64000) ∧ (-64000 ≤ tr_M F h n ∧ tr_M F h n ≤ 0) := by
  have h1 := tr_bd hF h n
  have h2 := tr_p6 h h6
  generalize (2 : Int) ^ h = P at h1 h2
  omega
theorem tr_cg {F G : Nat → Int} {p : Nat} (hFG : ∀ m, m ≠ p → F m = G m) : ∀ h n, n ≠ p / 2 ^ h → tr_S F h n = tr_S G h n ∧ tr_M F h n = tr_M G h n := by
  intro h
  induction h with
  | zero =>
    intro n hn
    have e : p / 2 ^ 0 = p := Nat.div_one p
    rw [e] at hn
    show F n = G n ∧ min (F n) 0 = min (G n) 0
    rw [hFG n hn]
    exact ⟨rfl, rfl⟩
  | succ h ih =>
    intro n hn
    have e : p / 2 ^ (h + 1) = p / 2 ^ h / 2 := by rw [Nat.pow_succ, Nat.div_div_eq_div_mul]
    rw [e] at hn
    have h1 := ih (2 * n) (by omega)
    have h2 := ih (2 * n + 1) (by omega)
    rw [tr_Ss, tr_Ms, tr_Ss, tr_Ms, h1.1, h1.2, h2.1, h2.2]
    exact ⟨rfl, rfl⟩
theorem tr_eq {F G : Nat → Int} (hFG : ∀ m, F m = G m) (h n : Nat) : tr_S F h n = tr_S G h n ∧ tr_M F h n = tr_M G h n := by
  have : F = G := funext hFG
  rw [this]
  exact ⟨rfl, rfl⟩
theorem tr_lev {n h k : Nat} (h1 : 64 ≤ n * 2 ^ h) (h2 : n * 2 ^ h < 128) (k1 : 64 ≤ n * 2 ^ k) (k2 : n * 2 ^ k < 128) : h = k := by
  have key : ∀ a b : Nat, a < b → 64 ≤ n * 2 ^ a → n * 2 ^ b < 128 → False := by
    intro a b hab q1 q2
    have e : 2 ^ b = 2 ^ a * 2 ^ (b - a) := by rw [← Nat.pow_add]; congr 1; omega
    have e2 : 2 ≤ 2 ^ (b - a) := by
      have : 2 ^ 1 ≤ 2 ^ (b - a) := Nat.pow_le_pow_right (by omega) (by omega)
      exact this
    have e3 : n * 2 ^ b = n * 2 ^ a * 2 ^ (b - a) := by rw [e, Nat.mul_assoc]
    have e4 : n * 2 ^ a * 2 ≤ n * 2 ^ a * 2 ^ (b - a) := Nat.mul_le_mul_left _ e2
    omega
  rcases Nat.lt_trichotomy h k with w | w | w
  · exact absurd (key h k w h1 k2) id
  · exact w
  · exact absurd (key k h w k1 h2) id
theorem tr_pw {e l : Nat} (he : e < 64) (hl : l < 6) : 64 ≤ (64 + e) / 2 ^ (l + 1) * 2 ^ (l + 1) ∧ (64 + e) / 2 ^ (l + 1) * 2 ^ (l + 1) < 128 ∧ 64 ≤ 2 * ((64 + e) / 2 ^ (l + 1)) * 2 ^ l ∧ 2 * ((64 + e) / 2 ^ (l + 1)) * 2 ^ l < 128 ∧ 64 ≤ (2 * ((64 + e) / 2 ^ (l + 1)) + 1) * 2 ^ l ∧ (2 * ((64 + e) / 2 ^ (l + 1)) + 1) * 2 ^ l < 128 ∧ 1 ≤ (64 + e) / 2 ^ (l + 1) ∧ (64 + e) / 2 ^ (l + 1) < 64 := by
  have : l = 0 ∨ l = 1 ∨ l = 2 ∨ l = 3 ∨ l = 4 ∨ l = 5 := by omega
  rcases this with h | h | h | h | h | h <;> subst h <;> omega
theorem tr_add {x y : Int32} {p q : Int} (hx : x.toInt = p) (hy : y.toInt = q) (hp : -1000000 ≤ p ∧ p ≤ 1000000) (hq : -1000000 ≤ q ∧ q ≤ 1000000) : (x + y).toInt = p + q := by
  rw [Int32.toInt_add, hx, hy]
  exact Int.bmod_eq_of_le (by omega) (by omega)
theorem tr_neg {m : Nat} (hm : m < 2 ^ 30) : (-nI m).toInt = -(m : Int) := by
  rw [Int32.toInt_neg, nI_toInt (by omega)]
  exact Int.bmod_eq_of_le (by omega) (by omega)
/-- what leaf m adds to account a -/
def en_F (ki ow su : Nat → Int32) (ec a m : Nat) : Int :=
  if 64 ≤ m ∧ m < 64 + ec ∧ ow (m - 64) = nI a then (if ki (m - 64) = 1 then -(su (m - 64)).toInt else (su (m - 64)).toInt) else 0
theorem en_bd (hE : ∀ i, i < ec → ∃ q, q ≤ 1000 ∧ su i = nI q) (a : Nat) : ∀ m, -1000 ≤ en_F ki ow su ec a m ∧ en_F ki ow su ec a m ≤ 1000 := by
  intro m
  unfold en_F
  by_cases h : 64 ≤ m ∧ m < 64 + ec ∧ ow (m - 64) = nI a
  · rw [if_pos h]
    obtain ⟨q, hq, e⟩ := hE (m - 64) (by omega)
    have e2 : (su (m - 64)).toInt = (q : Int) := by rw [e]; exact nI_toInt (by omega)
    rw [e2]
    split <;> omega
  · rw [if_neg h]; omega
theorem en_old {a b : Nat} {kd : Int32} {m : Nat} (hb : b < 6) (ha : a < 6) (q : Int32) (hm : m ≠ 64 + ec ∨ b ≠ a) : en_F ki ow su ec b m = en_F (upd ki ec kd) (upd ow ec (nI a)) (upd su ec q) (ec + 1) b m := by
  unfold en_F
  by_cases h : m = 64 + ec
  · have hba : b ≠ a := hm.resolve_left (fun w => w h)
    have h1 : ¬ (64 ≤ m ∧ m < 64 + ec ∧ ow (m - 64) = nI b) := fun w => by omega
    have h2 : ¬ (64 ≤ m ∧ m < 64 + (ec + 1) ∧ upd ow ec (nI a) (m - 64) = nI b) := by
      intro w
      have w3 := w.2.2
      rw [show m - 64 = ec by omega, pk_us] at w3
      exact hba (en_im w3 (by omega) (by omega)).symm
    rw [if_neg h1, if_neg h2]
  · by_cases h6 : 64 ≤ m
    · have hne : m - 64 ≠ ec := by omega
      rw [pk_un hne, pk_un hne, pk_un hne]
      by_cases h7 : m < 64 + ec
      · by_cases h8 : ow (m - 64) = nI b
        · rw [if_pos (show 64 ≤ m ∧ m < 64 + ec ∧ ow (m - 64) = nI b from ⟨h6, h7, h8⟩), if_pos (show 64 ≤ m ∧ m < 64 + (ec + 1) ∧ ow (m - 64) = nI b from ⟨h6, by omega, h8⟩)]
        · rw [if_neg (fun w => h8 w.2.2), if_neg (fun w => h8 w.2.2)]
      · rw [if_neg (fun w => h7 w.2.1), if_neg (fun w => by omega)]
    · rw [if_neg (fun w => h6 w.1), if_neg (fun w => h6 w.1)]
theorem en_new {a : Nat} {kd q : Int32} : en_F (upd ki ec kd) (upd ow ec (nI a)) (upd su ec q) (ec + 1) a (64 + ec) = if kd = 1 then -q.toInt else q.toInt := by
  unfold en_F
  rw [show 64 + ec - 64 = ec by omega, pk_us, pk_us, pk_us, if_pos ⟨by omega, by omega, rfl⟩]
/-- the tree's nodes are right -/
def rl_R (F : Nat → Nat → Int) (ch di : Nat → Int32) : Prop :=
  ∀ a, a < 6 → ∀ h n, h ≤ 6 → 64 ≤ n * 2 ^ h → n * 2 ^ h < 128 → (ch (128 * a + n)).toInt = tr_S (F a) h n ∧ (di (128 * a + n)).toInt = tr_M (F a) h n
theorem tr_nl {n h : Nat} (h2 : n * 2 ^ h < 128) : n < 128 := Nat.lt_of_le_of_lt (Nat.le_mul_of_pos_right n (Nat.two_pow_pos h)) h2
theorem xe_lp {post : SX → Prop} {a : Nat} {F : Nat → Nat → Int} (hec : ec < 64) (ha : a < 6) (hF : ∀ m, -1000 ≤ F a m ∧ F a m ≤ 1000)
    (K : ∀ ch' di' : Nat → Int32, rl_R F ch' di' → post ((nI A), (nI nc), (nI lc), (nI dc), (nI (ec + 1)), (nI dp), hsm, mk, dy, tc, mv, (nI T), ws, wd, so, fi, sp, sc, ip, it, fl, wa, lg, lw, ln, pr, pe, am, xr, xf, st, ba, wt, ki, ow, su, dl, da, ch', di')) :
    ∀ (n l : Nat) (c1 d1 : Nat → Int32), l ≤ 6 → 6 < n + l →
      (∀ b, b < 6 → ∀ h k, h ≤ 6 → 64 ≤ k * 2 ^ h → k * 2 ^ h < 128 → (h ≤ l ∨ b ≠ a ∨ k ≠ (64 + ec) / 2 ^ h) → (c1 (128 * b + k)).toInt = tr_S (F b) h k ∧ (d1 (128 * b + k)).toInt = tr_M (F b) h k) →
      wX_enter_145 post (nI (a * 128)) (nI A) (nI nc) (nI lc) (nI dc) (nI ec) (nI dp) hsm mk dy tc mv (nI T) ws wd n (nI ((64 + ec) / 2 ^ l)) (nI l) so fi sp sc ip it fl wa lg lw ln pr pe am xr xf st ba wt ki ow su dl da c1 d1 := by
  intro n
  induction n with
  | zero => intro l c1 d1 h1 h2; exact absurd h1 (by omega)
  | succ n ih =>
    intro l c1 d1 hl hn hI
    by_cases hl6 : l = 6
    · subst hl6
      exact br_t (nI_le (a := 6) (Nat.le_refl _) (by decide)) (nm_r (nI_1 ec) (K c1 d1 (fun b hb h k h6 k1 k2 => hI b hb h k h6 k1 k2 (Or.inl h6))))
    · have hl5 : l < 6 := by omega
      obtain ⟨p1, p2, p3, p4, p5, p6, p7, p8⟩ := tr_pw hec hl5
      have eq2 : (64 + ec) / 2 ^ (l + 1) = (64 + ec) / 2 ^ l / 2 := by rw [Nat.pow_succ, Nat.div_div_eq_div_mul]
      have qb : (64 + ec) / 2 ^ l ≤ 64 + ec := Nat.div_le_self _ _
      generalize hm : (64 + ec) / 2 ^ (l + 1) = m at *
      have L := hI a ha l (2 * m) (by omega) p3 p4 (Or.inl (Nat.le_refl _))
      have R := hI a ha l (2 * m + 1) (by omega) p5 p6 (Or.inl (Nat.le_refl _))
      have bL := tr_b6 hF (h := l) (by omega) (2 * m)
      have bR := tr_b6 hF (h := l) (by omega) (2 * m + 1)
      have e9 : nI (a * 128) + 2 * nI m = nI (128 * a + 2 * m) := by
        rw [show (2 : Int32) = nI 2 from rfl, pk_mul, nI_add]
        exact congrArg nI (by omega)
      have e91 : nI (128 * a + 2 * m) + 1 = nI (128 * a + (2 * m + 1)) := nI_1 _
      have e8 : nI (a * 128) + nI m = nI (128 * a + m) := by
        rw [nI_add]
        exact congrArg nI (by omega)
      have c9 : (nI (128 * a + 2 * m)).toNatClampNeg = 128 * a + 2 * m := nI_clamp (by omega)
      have c91 : (nI (128 * a + (2 * m + 1))).toNatClampNeg = 128 * a + (2 * m + 1) := nI_clamp (by omega)
      have c8 : (nI (128 * a + m)).toNatClampNeg = 128 * a + m := nI_clamp (by omega)
      have i9 : vp_in (nI (128 * a + 2 * m)) 768 := vp_in_nI (by omega) (by omega)
      have i91 : vp_in (nI (128 * a + (2 * m + 1))) 768 := vp_in_nI (by omega) (by omega)
      have i8 : vp_in (nI (128 * a + m)) 768 := vp_in_nI (by omega) (by omega)
      have nxt : ∀ z w : Int32, z.toInt = tr_S (F a) (l + 1) m → w.toInt = tr_M (F a) (l + 1) m →
          wX_enter_145 post (nI (a * 128)) (nI A) (nI nc) (nI lc) (nI dc) (nI ec) (nI dp) hsm mk dy tc mv (nI T) ws wd n (nI m) (nI (l + 1)) so fi sp sc ip it fl wa lg lw ln pr pe am xr xf st ba wt ki ow su dl da (upd c1 (128 * a + m) z) (upd d1 (128 * a + m) w) := by
        intro z w hz hw
        have := ih (l + 1) (upd c1 (128 * a + m) z) (upd d1 (128 * a + m) w) (by omega) (by omega) (fun b hb h k h6 k1 k2 hg => ?_)
        · rw [hm] at this
          exact this
        · have k3 := tr_nl k2
          by_cases q : b = a ∧ k = m
          · obtain ⟨q1, q2⟩ := q
            subst q1 q2
            have : h = l + 1 := tr_lev k1 k2 p1 p2
            subst this
            rw [pk_us, pk_us]
            exact ⟨hz, hw⟩
          · have ne : 128 * b + k ≠ 128 * a + m := by omega
            rw [pk_un ne, pk_un ne]
            refine hI b hb h k h6 k1 k2 ?_
            by_cases w1 : b = a
            · by_cases w2 : h = l + 1
              · refine Or.inr (Or.inr ?_)
                rw [w2, hm]
                exact fun w3 => q ⟨w1, w3⟩
              · rcases hg with g | g | g
                · exact Or.inl (by omega)
                · exact absurd w1 g
                · exact Or.inr (Or.inr g)
            · exact Or.inr (Or.inl w1)
      have ex7 : nI ((64 + ec) / 2 ^ l) >>> ((1 : Int32) &&& 31) = nI m := by
        rw [pk_shrN (by omega) _ 1 (by decide), eq2]
      refine br_f (nI_ge (b := 6) (by omega) (by decide)) (nm_r ex7 (nm_r e9 ?_))
      rw [e91, c9, c91, e8, c8]
      have hS : (c1 (128 * a + 2 * m) + c1 (128 * a + (2 * m + 1))).toInt = tr_S (F a) (l + 1) m := by
        rw [tr_Ss]
        exact tr_add L.1 R.1 (by omega) (by omega)
      have hV : (c1 (128 * a + 2 * m) + d1 (128 * a + (2 * m + 1))).toInt = tr_S (F a) l (2 * m) + tr_M (F a) l (2 * m + 1) := tr_add L.1 R.2 (by omega) (by omega)
      refine And.intro i9 (And.intro i91 (nm_e (And.intro i9 (And.intro i91 (And.intro i8 (nm_e (And.intro i9 (br_c (fun h => And.intro i8 (nm_e (nm_r (nI_1 l) (nxt _ _ hS ?_)))) (fun h => And.intro i9 (And.intro i8 (nm_e (nm_r (nI_1 l) (nxt _ _ hS ?_)))))))))))))
      · rw [Int32.le_iff_toInt_le, hV, L.2] at h
        rw [hV, tr_Ms]
        omega
      · rw [Int32.le_iff_toInt_le, hV, L.2] at h
        rw [L.2, tr_Ms]
        omega
theorem xe_11 {post : SX → Prop} {a m : Nat} {kd dd sg : Int32} (hec : ec < 64) (ha : a < 6) (hm : m ≤ 1000) (hE : ∀ i, i < ec → ∃ q, q ≤ 1000 ∧ su i = nI q) (hR : rl_R (en_F ki ow su ec) ch di)
    (hsg : sg.toInt = if kd = 1 then -(nI m).toInt else (nI m).toInt)
    (K : ∀ ch' di' : Nat → Int32, rl_R (en_F (upd ki ec kd) (upd ow ec (nI a)) (upd su ec (nI m)) (ec + 1)) ch' di' → post ((nI A), (nI nc), (nI lc), (nI dc), (nI (ec + 1)), (nI dp), hsm, mk, dy, (tc ||| wt a), mv, (nI T), ws, wd, so, fi, sp, sc, ip, it, fl, wa, lg, lw, ln, pr, pe, am, xr, xf, st, (upd ba a (ba a + sg)), wt, (upd ki ec kd), (upd ow ec (nI a)), (upd su ec (nI m)), (upd dl ec dd), (upd da ec (nI T)), ch', di')) :
    wX_enter_11 post kd (nI a) (nI m) dd sg (nI A) (nI nc) (nI lc) (nI dc) (nI ec) (nI dp) hsm mk dy tc mv (nI T) ws wd so fi sp sc ip it fl wa lg lw ln pr pe am xr xf st ba wt ki ow su dl da ch di := by
  have ce : (nI ec).toNatClampNeg = ec := nI_clamp (by omega)
  have ca : (nI a).toNatClampNeg = a := nI_clamp (by omega)
  have ie : vp_in (nI ec) 64 := vp_in_nI hec (by omega)
  have ia : vp_in (nI a) 6 := vp_in_nI ha (by omega)
  have e6 : nI a * 128 = nI (a * 128) := pk_mul a 128
  have e7 : 64 + nI ec = nI (64 + ec) := nI_add 64 ec
  have e8 : nI (a * 128) + nI (64 + ec) = nI (128 * a + (64 + ec)) := by
    rw [nI_add]; exact congrArg nI (by omega)
  have c8 : (nI (128 * a + (64 + ec))).toNatClampNeg = 128 * a + (64 + ec) := nI_clamp (by omega)
  have i8 : vp_in (nI (128 * a + (64 + ec))) 768 := vp_in_nI (by omega) (by omega)
  have hE' : ∀ i, i < ec + 1 → ∃ q, q ≤ 1000 ∧ upd su ec (nI m) i = nI q := by
    intro i hi
    by_cases q : i = ec
    · exact ⟨m, hm, by rw [q, pk_us]⟩
    · rw [pk_un q]; exact hE i (by omega)
  have fin : ∀ w : Int32, w.toInt = min sg.toInt 0 → ∃ n145 : Nat, wX_enter_145 post (nI (a * 128)) (nI A) (nI nc) (nI lc) (nI dc) (nI ec) (nI dp) hsm mk dy (tc ||| wt a) mv (nI T) ws wd n145 (nI (64 + ec)) 0 so fi sp sc ip it fl wa lg lw ln pr pe am xr xf st (upd ba a (ba a + sg)) wt (upd ki ec kd) (upd ow ec (nI a)) (upd su ec (nI m)) (upd dl ec dd) (upd da ec (nI T)) (upd ch (128 * a + (64 + ec)) sg) (upd di (128 * a + (64 + ec)) w) := by
    intro w hw
    refine ⟨7, ?_⟩
    have := xe_lp (post := post) (F := en_F (upd ki ec kd) (upd ow ec (nI a)) (upd su ec (nI m)) (ec + 1)) (a := a) hec ha (en_bd hE' a) K 7 0 (upd ch (128 * a + (64 + ec)) sg) (upd di (128 * a + (64 + ec)) w) (by omega) (by omega) (fun b hb h k h6 k1 k2 hg => ?_)
    · rw [show (64 + ec) / 2 ^ 0 = 64 + ec from Nat.div_one _] at this
      exact this
    · have k3 := tr_nl k2
      by_cases q : b = a ∧ k = 64 + ec
      · obtain ⟨q1, q2⟩ := q
        subst q1 q2
        have : h = 0 := tr_lev k1 k2 (k := 0) (by omega) (by omega)
        subst this
        rw [pk_us, pk_us, hw, hsg, ← en_new (ki := ki) (ow := ow) (su := su) (ec := ec) (a := b)]
        exact ⟨rfl, rfl⟩
      · have ne : 128 * b + k ≠ 128 * a + (64 + ec) := by omega
        rw [pk_un ne, pk_un ne]
        have old := hR b hb h k h6 k1 k2
        rw [old.1, old.2]
        by_cases w1 : b = a
        · have w2 : k ≠ (64 + ec) / 2 ^ h := by
            rcases hg with g | g | g
            · have h0 : h = 0 := by omega
              subst h0
              rw [show (64 + ec) / 2 ^ 0 = 64 + ec from Nat.div_one _]
              exact fun w3 => q ⟨w1, w3⟩
            · exact absurd w1 g
            · exact g
          exact tr_cg (fun m' hm' => en_old hb ha (nI m) (Or.inl hm')) h k w2
        · exact tr_eq (fun m' => en_old hb ha (nI m) (Or.inr w1)) h k
  unfold wX_enter_11
  rw [ce, ca, e6, e7]
  refine And.intro ie (nm_e (And.intro ie (nm_e (And.intro ie (nm_e (And.intro ie (nm_e (And.intro ie (nm_e (And.intro ia (And.intro ia (nm_e (And.intro ia (nm_e (nm_e (nm_e ?_))))))))))))))))
  rw [e8, c8]
  refine And.intro i8 (nm_e (br_c (fun h => And.intro i8 (nm_e (fin _ ?_))) (fun h => And.intro i8 (nm_e (fin _ ?_)))))
  · rw [Int32.le_iff_toInt_le] at h
    have h0 : (0 : Int32).toInt = 0 := by decide
    rw [h0] at h ⊢
    omega
  · rw [Int32.le_iff_toInt_le] at h
    have h0 : (0 : Int32).toInt = 0 := by decide
    rw [h0] at h
    omega
theorem xe_enter {post : SX → Prop} {a m : Nat} {kd dd sg : Int32} (hec : ec < 64) (ha : a < 6) (hm : m ≤ 1000) (hE : ∀ i, i < ec → ∃ q, q ≤ 1000 ∧ su i = nI q) (hR : rl_R (en_F ki ow su ec) ch di)
    (hsg : (kd = 1 ∧ sg = -nI m) ∨ (¬ kd = 1 ∧ sg = nI m))
    (K : ∀ ch' di' : Nat → Int32, rl_R (en_F (upd ki ec kd) (upd ow ec (nI a)) (upd su ec (nI m)) (ec + 1)) ch' di' → post ((nI A), (nI nc), (nI lc), (nI dc), (nI (ec + 1)), (nI dp), hsm, mk, dy, (tc ||| wt a), mv, (nI T), ws, wd, so, fi, sp, sc, ip, it, fl, wa, lg, lw, ln, pr, pe, am, xr, xf, st, (upd ba a (ba a + sg)), wt, (upd ki ec kd), (upd ow ec (nI a)), (upd su ec (nI m)), (upd dl ec dd), (upd da ec (nI T)), ch', di')) :
    wpX_enter post ((nI A), (nI nc), (nI lc), (nI dc), (nI ec), (nI dp), hsm, mk, dy, tc, mv, (nI T), ws, wd, so, fi, sp, sc, ip, it, fl, wa, lg, lw, ln, pr, pe, am, xr, xf, st, ba, wt, ki, ow, su, dl, da, ch, di) kd (nI a) (nI m) dd := by
  rcases hsg with ⟨h1, h2⟩ | ⟨h1, h2⟩
  · subst h2
    exact br_t h1 (xe_11 hec ha hm hE hR (by rw [if_pos h1, tr_neg (by omega), nI_toInt (by omega)]) K)
  · subst h2
    exact br_f h1 (xe_11 hec ha hm hE hR (by rw [if_neg h1]) K)
end TR
end
section
section WK
variable {A nc lc dc ec dp T : Nat} {hsm mk dy tc mv ws wd : Int32} {so fi sp sc ip it fl wa lg lw ln pr pe am xr xf st ba wt ki ow su dl da ch di md iN iW nw yr yf : Nat → Int32} {ni gt src : Nat → Nat}
/-! sums of the first leaves, and the least of them -/
def ew_p (F : Nat → Int) : Nat → Int
  | 0 => 0
  | m + 1 => ew_p F m + F m
def ew_m (F : Nat → Int) (i : Nat) : Nat → Int
  | 0 => ew_p F i
  | n + 1 => min (ew_m F i n) (ew_p F (i + n + 1))
theorem ew_ps (F : Nat → Int) (m : Nat) : ew_p F (m + 1) = ew_p F m + F m := rfl
theorem ew_ms (F : Nat → Int) (i n : Nat) : ew_m F i (n + 1) = min (ew_m F i n) (ew_p F (i + n + 1)) := rfl
theorem ew_ml (F : Nat → Int) (i : Nat) : ∀ n, ew_m F i n ≤ ew_p F (i + n) := by
  intro n
  cases n with
  | zero => exact Int.le_refl _
  | succ n => rw [ew_ms]; exact Int.min_le_right _ _
theorem ew_ma (F : Nat → Int) (i a : Nat) : ∀ b, ew_m F i (a + b) = min (ew_m F i a) (ew_m F (i + a) b) := by
  intro b
  induction b with
  | zero =>
    have := ew_ml F i a
    show ew_m F i a = min (ew_m F i a) (ew_p F (i + a))
    omega
  | succ b ih =>
    rw [← Nat.add_assoc, ew_ms, ih, ew_ms, show i + (a + b) + 1 = i + a + b + 1 by omega]
    omega
theorem ew_bd {F : Nat → Int} (hF : ∀ m, -1000 ≤ F m ∧ F m ≤ 1000) (l : Nat) : ∀ n : Nat, (-1000 * (n : Int) ≤ ew_p F (l + n) - ew_p F l ∧ ew_p F (l + n) - ew_p F l ≤ 1000 * (n : Int)) ∧ (-1000 * (n : Int) ≤ ew_m F l n - ew_p F l ∧ ew_m F l n - ew_p F l ≤ 0) := by
  intro n
  induction n with
  | zero =>
    show (_ ≤ ew_p F l - ew_p F l ∧ _) ∧ (_ ≤ ew_p F l - ew_p F l ∧ ew_p F l - ew_p F l ≤ 0)
    rw [show l + 0 = l from rfl]
    omega
  | succ n ih =>
    have := hF (l + n)
    rw [ew_ms, ← Nat.add_assoc, ew_ps]
    omega
theorem ew_tr (F : Nat → Int) : ∀ h n, tr_S F h n = ew_p F (n * 2 ^ h + 2 ^ h) - ew_p F (n * 2 ^ h) ∧ tr_M F h n = ew_m F (n * 2 ^ h) (2 ^ h) - ew_p F (n * 2 ^ h) := by
  intro h
  induction h with
  | zero =>
    intro n
    rw [show (2 : Nat) ^ 0 = 1 from rfl, Nat.mul_one, ew_ps, show ew_m F n 1 = min (ew_p F n) (ew_p F (n + 0 + 1)) from rfl, Nat.add_zero, ew_ps]
    show F n = _ ∧ min (F n) 0 = _
    omega
  | succ h ih =>
    intro n
    have h1 := ih (2 * n)
    have h2 := ih (2 * n + 1)
    have e : (2 : Nat) ^ (h + 1) = 2 ^ h + 2 ^ h := by rw [Nat.pow_succ]; omega
    have e1 : 2 * n * 2 ^ h = n * 2 ^ (h + 1) := by rw [Nat.pow_succ, Nat.mul_comm 2 n, Nat.mul_assoc, Nat.mul_comm 2]
    have e2 : (2 * n + 1) * 2 ^ h = n * 2 ^ (h + 1) + 2 ^ h := by rw [Nat.add_mul, e1, Nat.one_mul]
    rw [e1] at h1
    rw [e2] at h2
    rw [tr_Ss, tr_Ms, h1.1, h1.2, h2.1, h2.2]
    have e3 : ew_m F (n * 2 ^ (h + 1)) (2 ^ (h + 1)) = min (ew_m F (n * 2 ^ (h + 1)) (2 ^ h)) (ew_m F (n * 2 ^ (h + 1) + 2 ^ h) (2 ^ h)) := by
      rw [show ew_m F (n * 2 ^ (h + 1)) (2 ^ (h + 1)) = ew_m F (n * 2 ^ (h + 1)) (2 ^ h + 2 ^ h) by rw [← e]]
      exact ew_ma F _ _ _
    have e4 : n * 2 ^ (h + 1) + 2 ^ (h + 1) = n * 2 ^ (h + 1) + 2 ^ h + 2 ^ h := by omega
    rw [e3, e4]
    generalize n * 2 ^ (h + 1) = q
    generalize 2 ^ h = w
    omega
theorem ew_z {F : Nat → Int} : ∀ n, (∀ m, m < n → F m = 0) → ew_p F n = 0 := by
  intro n
  induction n with
  | zero => intro _; rfl
  | succ n ih => intro h; rw [ew_ps, ih (fun m hm => h m (by omega)), h n (by omega)]; rfl
theorem ew_64 {a : Nat} : ew_p (en_F ki ow su ec a) 64 = 0 := ew_z 64 (fun m hm => if_neg (fun w => by omega))
/-! the blocks of a walk -/
def ew_h (p j : Nat) : Nat → Nat → Nat
  | 0, h => h
  | f + 1, h => if p / 2 ^ h % 2 = 0 ∧ p + 2 * 2 ^ h ≤ j then ew_h p j f (h + 1) else h
def ew_c (j : Nat) : Nat → Nat → Bool
  | 0, p => p == j
  | n + 1, p => if j ≤ p then p == j else ew_c j n (p + 2 ^ (ew_h p j 6 0))
theorem ew_ck : ∀ j, j < 65 → ∀ i, i < 65 → i ≤ j → ew_c j 14 i = true := by decide +kernel
theorem wk_h {post : SX → Prop} {J : Int32 → Int32 → Int32 → Int32 → Prop} {x4 x6 : Int32} {p j : Nat} (hj : j ≤ 64) (hp : p < j) :
    ∀ (n h : Nat), h ≤ 6 → 6 < n + h → 2 ^ h ∣ p → p + 2 ^ h ≤ j →
      (∀ h', h' ≤ 6 → 2 ^ h' ∣ p → p + 2 ^ h' ≤ j → h' = ew_h p j (6 - h) h → wX_walk_73 post J (nI j) x4 (nI p) x6 (nI h') (nI A) (nI nc) (nI lc) (nI dc) (nI ec) (nI dp) hsm mk dy tc mv (nI T) ws wd so fi sp sc ip it fl wa lg lw ln pr pe am xr xf st ba wt ki ow su dl da ch di) →
      wX_walk_39 post J (nI j) x4 (nI p) x6 (nI A) (nI nc) (nI lc) (nI dc) (nI ec) (nI dp) hsm mk dy tc mv (nI T) ws wd so fi sp sc ip it fl wa lg lw ln pr pe am xr xf st ba wt ki ow su dl da ch di n (nI h) := by
  intro n
  induction n with
  | zero => intro h h1 h2; exact absurd h1 (by omega)
  | succ n ih =>
    intro h h6 hn hd hl K
    by_cases q : h = 6
    · subst q
      exact br_t (nI_le (a := 6) (Nat.le_refl _) (by decide)) (K 6 (Nat.le_refl _) hd hl rfl)
    · have hh : h < 6 := by omega
      have e1 : nI p >>> (nI h &&& 31) = nI (p / 2 ^ h) := pk_shrN (by omega) _ h (s_l h (by omega))
      have hq : p / 2 ^ h ≤ p := Nat.div_le_self _ _
      have e2 : nI (p / 2 ^ h) &&& 1 = nI (p / 2 ^ h % 2) := pk_andN (by omega) 1 (by decide)
      have hw : (2 : Nat) ^ h ≤ 32 := by
        have := Nat.pow_le_pow_right (n := 2) (by omega) (show h ≤ 5 by omega)
        exact this
      have e3 : (2 : Int32) <<< (nI h &&& 31) = nI (2 * 2 ^ h) := pk_shlN (n := 2) _ h (s_l h (by omega)) (by omega)
      have e4 : nI p + nI (2 * 2 ^ h) = nI (p + 2 * 2 ^ h) := nI_add _ _
      have es : ew_h p j (6 - h) h = if p / 2 ^ h % 2 = 0 ∧ p + 2 * 2 ^ h ≤ j then ew_h p j (6 - (h + 1)) (h + 1) else h := by
        rw [show 6 - h = (6 - (h + 1)) + 1 by omega]
        rfl
      refine br_f (nI_ge (b := 6) (by omega) (by decide)) ?_
      rw [e1, e2, e3, e4]
      refine pk_eq (p / 2 ^ h % 2) 0 (fun g0 => ?_) (fun g0 => ?_)
      · refine pk_lt j (p + 2 * 2 ^ h) (fun g1 => ?_) (fun g1 => nm_r (nI_1 h) ?_)
        · exact K h h6 hd hl (by rw [es, if_neg (fun w => by omega)])
        · refine ih (h + 1) (by omega) (by omega) ?_ (by rw [Nat.pow_succ]; omega) (fun h' a1 a2 a3 a4 => K h' a1 a2 a3 (by rw [es, if_pos ⟨g0, g1⟩]; exact a4))
          obtain ⟨c, hc⟩ := hd
          have hpos : 0 < 2 ^ h := Nat.two_pow_pos h
          have hc2 : p / 2 ^ h = c := by rw [hc, Nat.mul_div_cancel_left _ hpos]
          rw [hc2] at g0
          refine ⟨c / 2, ?_⟩
          rw [Nat.pow_succ, Nat.mul_assoc, hc]
          congr 1
          omega
      · exact K h h6 hd hl (by rw [es, if_neg (fun w => g0 w.1)])
theorem wk_o {post : SX → Prop} {a i j : Nat} {F : Nat → Nat → Int} (ha : a < 6) (hj : j ≤ 64) (hF : ∀ m, -1000 ≤ F a m ∧ F a m ≤ 1000) (hR : rl_R F ch di)
    (K : ∀ ws' wd' : Int32, ws'.toInt = ew_p (F a) (64 + j) - ew_p (F a) (64 + i) → wd'.toInt = ew_m (F a) (64 + i) (j - i) - ew_p (F a) (64 + i) → post ((nI A), (nI nc), (nI lc), (nI dc), (nI ec), (nI dp), hsm, mk, dy, tc, mv, (nI T), ws', wd', so, fi, sp, sc, ip, it, fl, wa, lg, lw, ln, pr, pe, am, xr, xf, st, ba, wt, ki, ow, su, dl, da, ch, di)) :
    ∀ (n s p : Nat) (ws1 wd1 : Int32), i ≤ p → p ≤ j → s ≤ 14 → 14 < n + s → ew_c j (14 - s) p = true → ws1.toInt = ew_p (F a) (64 + p) - ew_p (F a) (64 + i) → wd1.toInt = ew_m (F a) (64 + i) (p - i) - ew_p (F a) (64 + i) →
      wX_walk_23 post (nI j) (nI (a * 128)) (nI A) (nI nc) (nI lc) (nI dc) (nI ec) (nI dp) hsm mk dy tc mv (nI T) so fi sp sc ip it fl wa lg lw ln pr pe am xr xf st ba wt ki ow su dl da ch di n (nI p) (nI s) ws1 wd1 := by
  intro n
  induction n with
  | zero => intro s p ws1 wd1 _ _ h1 h2; exact absurd h1 (by omega)
  | succ n ih =>
    intro s p ws1 wd1 hip hpj hs hn hc hws hwd
    by_cases q : p = j
    · have Kf := K ws1 wd1 (by rw [hws, q]) (by rw [hwd, q])
      exact br_c (fun _ => Kf) (fun _ => br_t (nI_le (by omega) (by omega)) Kf)
    · have hp : p < j := by omega
      have hs2 : s < 14 := by
        rcases Nat.lt_or_ge s 14 with w | w
        · exact w
        · have e : 14 - s = 0 := by omega
          rw [e] at hc
          have : (p == j) = true := hc
          exact absurd (beq_iff_eq.mp this) q
      have hc2 : ew_c j (14 - (s + 1)) (p + 2 ^ (ew_h p j 6 0)) = true := by
        rw [show 14 - s = (14 - (s + 1)) + 1 by omega] at hc
        have : (if j ≤ p then p == j else ew_c j (14 - (s + 1)) (p + 2 ^ (ew_h p j 6 0))) = true := hc
        rw [if_neg (by omega)] at this
        exact this
      refine br_f (nI_ge (b := 14) (by omega) (by decide)) (br_f (nI_ge (by omega) (by omega)) (Exists.intro 7 (wk_h hj hp 7 0 (by omega) (by omega) (Nat.one_dvd p) (by show p + 1 ≤ j; omega) (fun h h6 hd hl eh => ?_))))
      rw [← show h = ew_h p j 6 0 from eh] at hc2
      have hpos : 0 < 2 ^ h := Nat.two_pow_pos h
      have hw : (2 : Nat) ^ h ≤ 64 := Nat.pow_le_pow_right (n := 2) (by omega) h6
      have hdv : 2 ^ h ∣ 64 + p := Nat.dvd_add (Nat.pow_dvd_pow 2 h6) hd
      have hmul : (64 + p) / 2 ^ h * 2 ^ h = 64 + p := Nat.div_mul_cancel hdv
      have hq : (64 + p) / 2 ^ h ≤ 64 + p := Nat.div_le_self _ _
      obtain ⟨t1, t2⟩ := hR a ha h ((64 + p) / 2 ^ h) h6 (by omega) (by omega)
      obtain ⟨r1, r2⟩ := ew_tr (F a) h ((64 + p) / 2 ^ h)
      rw [hmul] at r1 r2
      rw [r1] at t1
      rw [r2] at t2
      have e1 : 64 + nI p = nI (64 + p) := nI_add 64 p
      have e2 : nI (64 + p) >>> (nI h &&& 31) = nI ((64 + p) / 2 ^ h) := pk_shrN (by omega) _ h (s_l h (by omega))
      have e3 : nI (a * 128) + nI ((64 + p) / 2 ^ h) = nI (128 * a + (64 + p) / 2 ^ h) := by
        rw [nI_add]; exact congrArg nI (by omega)
      have c3 : (nI (128 * a + (64 + p) / 2 ^ h)).toNatClampNeg = 128 * a + (64 + p) / 2 ^ h := nI_clamp (by omega)
      have i3 : vp_in (nI (128 * a + (64 + p) / 2 ^ h)) 768 := vp_in_nI (by omega) (by omega)
      have e5 : (1 : Int32) <<< (nI h &&& 31) = nI (2 ^ h) := by
        have := pk_shlN (n := 1) (nI h &&& 31) h (s_l h (by omega)) (by omega)
        rw [Nat.one_mul] at this
        exact this
      have e6 : nI p + nI (2 ^ h) = nI (p + 2 ^ h) := nI_add _ _
      have b1 := ew_bd hF (64 + i) (p - i)
      have b2 := ew_bd hF (64 + p) (2 ^ h)
      rw [show 64 + i + (p - i) = 64 + p by omega] at b1
      have hma := ew_ma (F a) (64 + i) (p - i) (2 ^ h)
      rw [show 64 + i + (p - i) = 64 + p by omega, show p - i + 2 ^ h = p + 2 ^ h - i by omega] at hma
      have hlow : (ws1 + di (128 * a + (64 + p) / 2 ^ h)).toInt = (ew_p (F a) (64 + p) - ew_p (F a) (64 + i)) + (ew_m (F a) (64 + p) (2 ^ h) - ew_p (F a) (64 + p)) := tr_add hws t2 (by omega) (by omega)
      have hsum : (ws1 + ch (128 * a + (64 + p) / 2 ^ h)).toInt = (ew_p (F a) (64 + p) - ew_p (F a) (64 + i)) + (ew_p (F a) (64 + p + 2 ^ h) - ew_p (F a) (64 + p)) := tr_add hws t1 (by omega) (by omega)
      have fin : ∀ wd2 : Int32, wd2.toInt = ew_m (F a) (64 + i) (p + 2 ^ h - i) - ew_p (F a) (64 + i) →
          wX_walk_115 post (wX_walk_23 post (nI j) (nI (a * 128)) (nI A) (nI nc) (nI lc) (nI dc) (nI ec) (nI dp) hsm mk dy tc mv (nI T) so fi sp sc ip it fl wa lg lw ln pr pe am xr xf st ba wt ki ow su dl da ch di n) (nI j) (nI (a * 128)) (nI p) (nI s) (nI h) (nI (128 * a + (64 + p) / 2 ^ h)) (nI A) (nI nc) (nI lc) (nI dc) (nI ec) (nI dp) hsm mk dy tc mv (nI T) ws1 wd2 so fi sp sc ip it fl wa lg lw ln pr pe am xr xf st ba wt ki ow su dl da ch di := by
        intro wd2 h2
        unfold wX_walk_115
        rw [c3, e5, e6]
        refine And.intro i3 (nm_e (nm_e (nm_r (nI_1 s) (ih (s + 1) (p + 2 ^ h) _ wd2 (by omega) (by omega) (by omega) (by omega) hc2 ?_ h2))))
        rw [hsum, ← Nat.add_assoc]
        omega
      unfold wX_walk_73
      rw [e1, e2, e3]
      refine nm_e (And.intro i3 ?_)
      rw [c3]
      refine nm_e (br_c (fun g => fin wd1 ?_) (fun g => fin _ ?_))
      · rw [Int32.le_iff_toInt_le, hlow, hwd] at g
        rw [hwd, hma]
        omega
      · rw [Int32.le_iff_toInt_le, hlow, hwd] at g
        rw [hlow, hma]
        omega
theorem wk_walk {post : SX → Prop} {a i j : Nat} {F : Nat → Nat → Int} (ha : a < 6) (hij : i ≤ j) (hj : j ≤ 64) (hF : ∀ m, -1000 ≤ F a m ∧ F a m ≤ 1000) (hR : rl_R F ch di)
    (K : ∀ ws' wd' : Int32, ws'.toInt = ew_p (F a) (64 + j) - ew_p (F a) (64 + i) → wd'.toInt = ew_m (F a) (64 + i) (j - i) - ew_p (F a) (64 + i) → post ((nI A), (nI nc), (nI lc), (nI dc), (nI ec), (nI dp), hsm, mk, dy, tc, mv, (nI T), ws', wd', so, fi, sp, sc, ip, it, fl, wa, lg, lw, ln, pr, pe, am, xr, xf, st, ba, wt, ki, ow, su, dl, da, ch, di)) :
    wpX_walk post ((nI A), (nI nc), (nI lc), (nI dc), (nI ec), (nI dp), hsm, mk, dy, tc, mv, (nI T), ws, wd, so, fi, sp, sc, ip, it, fl, wa, lg, lw, ln, pr, pe, am, xr, xf, st, ba, wt, ki, ow, su, dl, da, ch, di) (nI a) (nI i) (nI j) := by
  have e : nI a * 128 = nI (a * 128) := pk_mul a 128
  refine nm_r e (Exists.intro 15 (wk_o (i := i) ha hj hF hR K 15 0 i 0 0 (Nat.le_refl _) hij (by omega) (by omega) (ew_ck j (by omega) i (by omega) hij) ?_ ?_))
  · show (0 : Int) = _
    omega
  · rw [Nat.sub_self]
    show (0 : Int) = ew_p (F a) (64 + i) - ew_p (F a) (64 + i)
    omega
end WK
end
section
section PA
variable {A nc lc dc ec dp T : Nat} {hsm mk dy tc mv ws wd : Int32} {so fi sp sc ip it fl wa lg lw ln pr pe am xr xf st ba wt ki ow su dl da ch di md iN iW nw yr yf : Nat → Int32} {ni gt src : Nat → Nat}
/-! past balances: the component's search, the reference's sums -/
theorem pa_bs {post : Int32 → SX → Prop} {x1 x2 : Int32} (hec : ec ≤ 64) (hmo : ∀ i j, i ≤ j → j < ec → da i ≤ da j)
    (K : ∀ lo : Nat, lo ≤ ec → (∀ i, i < lo → ¬ x2 < da i) → (∀ i, lo ≤ i → i < ec → x2 < da i) → wpX_walk (fun u => match u with | (y1, y2, y3, y4, y5, y6, y7, y8, y9, y10, y11, y12, y13, y14, y15, y16, y17, y18, y19, y20, y21, y22, y23, y24, y25, y26, y27, y28, y29, y30, y31, y32, y33, y34, y35, y36, y37, y38, y39, y40) => post y13 (y1, y2, y3, y4, y5, y6, y7, y8, y9, y10, y11, y12, y13, y14, y15, y16, y17, y18, y19, y20, y21, y22, y23, y24, y25, y26, y27, y28, y29, y30, y31, y32, y33, y34, y35, y36, y37, y38, y39, y40)) ((nI A), (nI nc), (nI lc), (nI dc), (nI ec), (nI dp), hsm, mk, dy, tc, mv, (nI T), ws, wd, so, fi, sp, sc, ip, it, fl, wa, lg, lw, ln, pr, pe, am, xr, xf, st, ba, wt, ki, ow, su, dl, da, ch, di) x1 0 (nI lo)) :
    ∀ (n s lo hi : Nat), s ≤ 8 → 8 < n + s → lo ≤ hi → hi ≤ ec → hi - lo < 2 ^ (8 - s) → (∀ i, i < lo → ¬ x2 < da i) → (∀ i, hi ≤ i → i < ec → x2 < da i) →
      wX_balanceOn_21 post x1 x2 (nI A) (nI nc) (nI lc) (nI dc) (nI ec) (nI dp) hsm mk dy tc mv (nI T) ws wd so fi sp sc ip it fl wa lg lw ln pr pe am xr xf st ba wt ki ow su dl da ch di n (nI lo) (nI hi) (nI s) := by
  intro n
  induction n with
  | zero => intro s lo hi h1 h2; exact absurd h1 (by omega)
  | succ n ih =>
    intro s lo hi hs hn hlh hhe hsz hlo hhi
    by_cases q : s = 8
    · subst q
      have e : lo = hi := by
        have : (2 : Nat) ^ (8 - 8) = 1 := rfl
        omega
      subst e
      exact br_t (nI_le (a := 8) (Nat.le_refl _) (by decide)) (K lo hhe hlo hhi)
    · have hp : (2 : Nat) ^ (8 - s) = 2 * 2 ^ (8 - (s + 1)) := by
        rw [show 8 - s = (8 - (s + 1)) + 1 by omega, Nat.pow_succ]
        omega
      have hp1 : 0 < 2 ^ (8 - (s + 1)) := Nat.two_pow_pos _
      refine br_f (nI_ge (b := 8) (by omega) (by decide)) ?_
      have e1 : (nI lo + nI hi) >>> ((1 : Int32) &&& 31) = nI ((lo + hi) / 2) := by
        rw [nI_add, pk_shrN (by omega) _ 1 (by decide)]
      have c1 : (nI ((lo + hi) / 2)).toNatClampNeg = (lo + hi) / 2 := nI_clamp (by omega)
      refine pk_le hi lo (fun g => nm_r (nI_1 s) (ih (s + 1) lo hi (by omega) (by omega) hlh hhe (by omega) hlo hhi)) (fun g => nm_r e1 (And.intro (vp_in_nI (by omega) (by omega)) ?_))
      rw [c1]
      refine br_c (fun g1 => nm_r (nI_1 s) (ih (s + 1) lo ((lo + hi) / 2) (by omega) (by omega) (by omega) (by omega) (by omega) hlo (fun i h1 h2 => Int32.lt_of_lt_of_le g1 (hmo _ _ h1 h2)))) (fun g1 => nm_r (nI_1 _) (nm_r (nI_1 s) (ih (s + 1) ((lo + hi) / 2 + 1) hi (by omega) (by omega) (by omega) hhe (by omega) (fun i h1 h2 => ?_) hhi)))
      exact g1 (Int32.lt_of_lt_of_le h2 (hmo i _ (by omega) (by omega)))
def pa_e (ki ow su : Nat → Int32) (a i : Nat) : Int32 := if ow i = nI a then (if ki i = 1 then -su i else su i) else 0
theorem pa_eF {a i : Nat} (hi : i < ec) (hE : ∃ q, q ≤ 1000 ∧ su i = nI q) : (pa_e ki ow su a i).toInt = en_F ki ow su ec a (64 + i) := by
  obtain ⟨q, hq, e⟩ := hE
  unfold pa_e en_F
  rw [show 64 + i - 64 = i by omega]
  by_cases h : ow i = nI a
  · rw [if_pos h, if_pos (show 64 ≤ 64 + i ∧ 64 + i < 64 + ec ∧ ow i = nI a from ⟨by omega, by omega, h⟩)]
    by_cases h2 : ki i = 1
    · rw [if_pos h2, if_pos h2, e, tr_neg (by omega), nI_toInt (by omega)]
    · rw [if_neg h2, if_neg h2]
  · rw [if_neg h, if_neg (fun w => h w.2.2)]
    rfl
theorem pa_eff {post : Int32 → Prop} {a i : Nat} (hi : i < 64) (K : post (pa_e ki ow su a i)) : wpY_effect post ((nI A), (nI T), (nI nc), (nI dc), (nI dp), (nI ec), ba, md, so, fi, sp, ip, iN, iW, nw, pr, pe, am, yr, yf, st, ki, ow, su, dl, da) (nI a) (nI i) := by
  have c : (nI i).toNatClampNeg = i := nI_clamp (by omega)
  have ii : vp_in (nI i) 64 := vp_in_nI hi (by omega)
  unfold wpY_effect
  dsimp only
  rw [c]
  unfold pa_e at K
  exact ⟨ii, br_c (fun h => ⟨ii, br_c (fun h2 => ⟨ii, by rwa [if_pos h, if_pos h2] at K⟩) (fun h2 => ⟨ii, by rwa [if_pos h, if_neg h2] at K⟩)⟩) (fun h => by rwa [if_neg h] at K)⟩
theorem pa_al {post : Int32 → Prop} {a k : Nat} (hk : k ≤ ec) (hec : ec ≤ 64) (hE : ∀ i, i < ec → ∃ q, q ≤ 1000 ∧ su i = nI q)
    (K : ∀ r : Int32, r.toInt = ew_p (en_F ki ow su ec a) (64 + k) → post r) :
    ∀ (n j : Nat) (r : Int32), j ≤ k → k < n + j → r.toInt = ew_p (en_F ki ow su ec a) (64 + j) → wY_balanceAfter_5 post (nI a) (nI k) (nI A) (nI T) (nI nc) (nI dc) (nI dp) (nI ec) ba md so fi sp ip iN iW nw pr pe am yr yf st ki ow su dl da n r (nI j) := by
  intro n
  induction n with
  | zero => intro j r h1 h2; exact absurd h1 (by omega)
  | succ n ih =>
    intro j r hj hn hr
    by_cases q : j = k
    · subst q
      exact br_t (nI_le (Nat.le_refl _) (by omega)) (K r hr)
    · refine br_f (nI_ge (by omega) (by omega)) (br_f (nI_ge (b := 64) (by omega) (by decide)) (pa_eff (by omega) (nm_e (nm_r (nI_1 j) (ih (j + 1) _ (by omega) (by omega) ?_)))))
      have b := ew_bd (en_bd (ki := ki) (ow := ow) hE a) 64 j
      have b2 := en_bd (ki := ki) (ow := ow) hE a (64 + j)
      rw [ew_64] at b
      rw [← Nat.add_assoc, ew_ps]
      exact tr_add hr (pa_eF (by omega) (hE j (by omega))) (by omega) (by omega)
theorem pa_after {post : Int32 → Prop} {a k : Nat} (hk : k ≤ ec) (hec : ec ≤ 64) (hE : ∀ i, i < ec → ∃ q, q ≤ 1000 ∧ su i = nI q)
    (K : ∀ r : Int32, r.toInt = ew_p (en_F ki ow su ec a) (64 + k) → post r) : wpY_balanceAfter post ((nI A), (nI T), (nI nc), (nI dc), (nI dp), (nI ec), ba, md, so, fi, sp, ip, iN, iW, nw, pr, pe, am, yr, yf, st, ki, ow, su, dl, da) (nI a) (nI k) :=
  Exists.intro (k + 1) (pa_al hk hec hE K (k + 1) 0 0 (by omega) (by omega) (by rw [show 64 + 0 = 64 from rfl, ew_64]; rfl))
theorem pa_ll {post : Int32 → Prop} {a i j : Nat} (hij : i ≤ j) (hj : j ≤ ec) (hec : ec ≤ 64) (hE : ∀ i, i < ec → ∃ q, q ≤ 1000 ∧ su i = nI q)
    (K : ∀ r : Int32, r.toInt = ew_m (en_F ki ow su ec a) (64 + i) (j - i) → post r) :
    ∀ (n k : Nat) (r : Int32), i ≤ k → k ≤ j + 1 → j + 1 < n + k → r.toInt = ew_m (en_F ki ow su ec a) (64 + i) (k - 1 - i) → wY_lowest_41 post (nI a) (nI j) (nI A) (nI T) (nI nc) (nI dc) (nI dp) (nI ec) ba md so fi sp ip iN iW nw pr pe am yr yf st ki ow su dl da n r (nI k) := by
  intro n
  induction n with
  | zero => intro k r _ h1 h2; exact absurd h1 (by omega)
  | succ n ih =>
    intro k r hik hkj hn hr
    by_cases q : k = j + 1
    · subst q
      exact br_t (nI_lt (by omega) (by omega)) (K r hr)
    · refine br_f (nI_nlt (by omega) (by omega)) (br_f (nI_nlt (a := 64) (by omega) (by decide)) (pa_after (by omega) hec hE (fun b hb => ?_)))
      have hst : ew_m (en_F ki ow su ec a) (64 + i) (k + 1 - 1 - i) = min (ew_m (en_F ki ow su ec a) (64 + i) (k - 1 - i)) (ew_p (en_F ki ow su ec a) (64 + k)) := by
        by_cases w : k = i
        · rw [w, show i + 1 - 1 - i = 0 by omega, show i - 1 - i = 0 by omega]
          show ew_p _ (64 + i) = min (ew_p _ (64 + i)) (ew_p _ (64 + i))
          omega
        · rw [show k + 1 - 1 - i = (k - 1 - i) + 1 by omega, ew_ms, show 64 + i + (k - 1 - i) + 1 = 64 + k by omega]
      refine br_c (fun g => nm_r (nI_1 k) (ih (k + 1) r (by omega) (by omega) (by omega) ?_)) (fun g => nm_r (nI_1 k) (ih (k + 1) b (by omega) (by omega) (by omega) ?_))
      · rw [Int32.le_iff_toInt_le, hr, hb] at g
        rw [hst, hr]
        omega
      · rw [Int32.le_iff_toInt_le, hr, hb] at g
        rw [hst, hb]
        omega
theorem pa_bl {post : Int32 → Prop} {a lo : Nat} {x2 : Int32} (hlo : lo ≤ ec) (hec : ec ≤ 64) (hE : ∀ i, i < ec → ∃ q, q ≤ 1000 ∧ su i = nI q) (h1 : ∀ i, i < lo → ¬ x2 < da i) (h2 : ∀ i, lo ≤ i → i < ec → x2 < da i)
    (K : ∀ r : Int32, r.toInt = ew_p (en_F ki ow su ec a) (64 + lo) → post r) :
    ∀ (n j : Nat) (r : Int32), j ≤ ec → ec < n + j → r.toInt = ew_p (en_F ki ow su ec a) (64 + min j lo) → wY_balanceOn_15 post (nI a) x2 (nI A) (nI T) (nI nc) (nI dc) (nI dp) (nI ec) ba md so fi sp ip iN iW nw pr pe am yr yf st ki ow su dl da n r (nI j) := by
  intro n
  induction n with
  | zero => intro j r h1 h2; exact absurd h1 (by omega)
  | succ n ih =>
    intro j r hj hn hr
    by_cases q : j = ec
    · subst q
      rw [Nat.min_eq_right hlo] at hr
      exact br_t (nI_le (Nat.le_refl _) (by omega)) (K r hr)
    · have c : (nI j).toNatClampNeg = j := nI_clamp (by omega)
      refine br_f (nI_ge (by omega) (by omega)) (br_f (nI_ge (b := 64) (by omega) (by decide)) (And.intro (vp_in_nI (by omega) (by omega)) ?_))
      rw [c]
      refine br_c (fun g => nm_r (nI_1 j) (ih (j + 1) r (by omega) (by omega) ?_)) (fun g => pa_eff (by omega) (nm_e (nm_r (nI_1 j) (ih (j + 1) _ (by omega) (by omega) ?_))))
      · have : lo ≤ j := by
          rcases Nat.lt_or_ge j lo with w | w
          · exact absurd g (h1 j w)
          · exact w
        rw [hr, Nat.min_eq_right this, Nat.min_eq_right (by omega)]
      · have : j < lo := by
          rcases Nat.lt_or_ge j lo with w | w
          · exact w
          · exact absurd (h2 j w (by omega)) g
        rw [Nat.min_eq_left (by omega)] at hr
        rw [Nat.min_eq_left (by omega)]
        have b := ew_bd (en_bd (ki := ki) (ow := ow) hE a) 64 j
        have b2 := en_bd (ki := ki) (ow := ow) hE a (64 + j)
        rw [ew_64] at b
        rw [← Nat.add_assoc, ew_ps]
        exact tr_add hr (pa_eF (by omega) (hE j (by omega))) (by omega) (by omega)
end PA
end
section
section RL
def dl_c (st pr am ba xr xf t : Nat → Int32) (d : Nat) : Prop :=
  (st d = 1 ∧ ¬ ba (pr d).toNatClampNeg < am d) ∨ (st d = 2 ∧ (¬ t (xr d).toNatClampNeg = 0 ∨ ¬ t (xf d).toNatClampNeg = 0))
def rl_L (nc lc : Nat) (ni gt src : Nat → Nat) (ip fl lg ln : Nat → Int32) : Prop :=
  (∀ g, ip g = nI (ni g) ∧ ni g ≤ 6) ∧ (∀ g, nc ≤ g → ni g = 0) ∧ lc = es_n ni 24 ∧ rl_G nc lc gt src fl lg ln
def rl_S (lc : Nat) (gt src : Nat → Nat) (lw it sc : Nat → Int32) : Prop := ∀ g, sc g = nh_x gt lw (fun e => it (src e)) g lc
def rl_D (A nc dc : Nat) (pr pe am xr xf st yr yf : Nat → Int32) : Prop :=
  dc ≤ 12 ∧ A ≤ 6 ∧ (∀ d, d < dc → (∃ p, p < A ∧ pr d = nI p) ∧ (∃ q, q < A ∧ pe d = nI q) ∧ (∃ m, m ≤ 1000 ∧ am d = nI m) ∧ yr d = xr d ∧ yf d = xf d ∧ ((xr d = -1 ∧ ¬ st d = 1 ∧ ¬ st d = 2) ∨ ∃ r f, r < nc ∧ f < nc ∧ xr d = nI r ∧ xf d = nI f)) ∧ (∀ d, dc ≤ d → d < 12 → xr d = -1 ∧ xf d = -1)
def rl_W (dc : Nat) (pr st wt : Nat → Int32) : Prop := ∀ d, d < dc → st d = 1 → bt (wt (pr d).toNatClampNeg) d = true
def rl_C (dc : Nat) (xr xf wa : Nat → Int32) : Prop := ∀ d, d < dc → (∀ r, r < 24 → xr d = nI r → bt (wa r) d = true) ∧ (∀ f, f < 24 → xf d = nI f → bt (wa f) d = true)
def rl_V (dc : Nat) (mv tc : Int32) (C : Nat → Prop) : Prop := (∀ d, d < dc → bt tc d = false → (bt mv d = true ↔ C d)) ∧ (∀ d, dc ≤ d → d < 32 → bt mv d = false)
def rl_H (dc : Nat) (st am : Nat → Int32) (hs : Int32) : Prop := hs = es_i (fun d => if st d = 2 then am d else 0) dc
def rl_pt (s : Int32) : Nat := if s = 0 ∨ s = 1 then 2 else if s = 2 then 1 else 0
def rl_K (dc dp ec : Nat) (st : Nat → Int32) : Prop := ec + es_n (fun d => rl_pt (st d)) dc ≤ dp + 2 * dc ∧ dp ≤ 40
def rl_E (A T ec : Nat) (ow su da : Nat → Int32) : Prop :=
  (∀ i, i < ec → (∃ a, a < A ∧ ow i = nI a) ∧ (∃ q, q ≤ 1000 ∧ su i = nI q) ∧ (∃ t, t ≤ T ∧ da i = nI t)) ∧ (∀ i j, i ≤ j → j < ec → da i ≤ da j)
/-- the relation; s: no deal can move; w: the reference's table is the component's -/
def rl_U (s w : Prop) (u : SX) (v : SY) : Prop :=
  ∃ (A nc lc dc ec dp T : Nat) (hsm mk tc mv ws wd : Int32) (so fi sp sc ip it fl wa lg lw ln pr pe am xr xf st ba wt ki ow su dl da ch di md iN iW nw yr yf : Nat → Int32) (ni gt src : Nat → Nat), u = ((nI A), (nI nc), (nI lc), (nI dc), (nI ec), (nI dp), hsm, mk, 0, tc, mv, (nI T), ws, wd, so, fi, sp, sc, ip, it, fl, wa, lg, lw, ln, pr, pe, am, xr, xf, st, ba, wt, ki, ow, su, dl, da, ch, di) ∧ v = ((nI A), (nI T), (nI nc), (nI dc), (nI dp), (nI ec), ba, md, so, fi, sp, ip, iN, iW, nw, pr, pe, am, yr, yf, st, ki, ow, su, dl, da) ∧ T ≤ 2000 ∧ rl_N nc so fi sp ∧ rl_M mk md ∧ rl_L nc lc ni gt src ip fl lg ln ∧ rl_I lc ni gt src lw iN iW ∧ rl_T nc lc gt src lw so fi sp mk (nI T) it ∧ rl_S lc gt src lw it sc ∧ rl_D A nc dc pr pe am xr xf st yr yf ∧ rl_W dc pr st wt ∧ rl_C dc xr xf wa ∧ rl_V dc mv tc (dl_c st pr am ba xr xf it) ∧ rl_H dc st am hsm ∧ rl_K dc dp ec st ∧ rl_E A T ec ow su da ∧ rl_R (en_F ki ow su ec) ch di ∧ (s → ∀ d, d < dc → ¬ dl_c st pr am ba xr xf it d) ∧ (w → ∀ k, k < nc → nw k = it k)
set_option maxHeartbeats 1000000 in
theorem rl_in {s w : Prop} {A nc lc dc ec dp T : Nat} {hsm mk tc mv ws wd : Int32} {so fi sp sc ip it fl wa lg lw ln pr pe am xr xf st ba wt ki ow su dl da ch di md iN iW nw yr yf : Nat → Int32} {ni gt src : Nat → Nat}
    (hT : T ≤ 2000) (hN : rl_N nc so fi sp) (hM : rl_M mk md) (hL : rl_L nc lc ni gt src ip fl lg ln) (hI : rl_I lc ni gt src lw iN iW) (hTb : rl_T nc lc gt src lw so fi sp mk (nI T) it) (hS : rl_S lc gt src lw it sc) (hD : rl_D A nc dc pr pe am xr xf st yr yf) (hW : rl_W dc pr st wt) (hC : rl_C dc xr xf wa) (hV : rl_V dc mv tc (dl_c st pr am ba xr xf it)) (hH : rl_H dc st am hsm) (hK : rl_K dc dp ec st) (hE : rl_E A T ec ow su da) (hR : rl_R (en_F ki ow su ec) ch di) (hs0 : (s → ∀ d, d < dc → ¬ dl_c st pr am ba xr xf it d)) (hw0 : (w → ∀ k, k < nc → nw k = it k)) : rl_U s w ((nI A), (nI nc), (nI lc), (nI dc), (nI ec), (nI dp), hsm, mk, 0, tc, mv, (nI T), ws, wd, so, fi, sp, sc, ip, it, fl, wa, lg, lw, ln, pr, pe, am, xr, xf, st, ba, wt, ki, ow, su, dl, da, ch, di) ((nI A), (nI T), (nI nc), (nI dc), (nI dp), (nI ec), ba, md, so, fi, sp, ip, iN, iW, nw, pr, pe, am, yr, yf, st, ki, ow, su, dl, da) :=
  ⟨A, nc, lc, dc, ec, dp, T, hsm, mk, tc, mv, ws, wd, so, fi, sp, sc, ip, it, fl, wa, lg, lw, ln, pr, pe, am, xr, xf, st, ba, wt, ki, ow, su, dl, da, ch, di, md, iN, iW, nw, yr, yf, ni, gt, src, rfl, rfl, hT, hN, hM, hL, hI, hTb, hS, hD, hW, hC, hV, hH, hK, hE, hR, hs0, hw0⟩
set_option maxHeartbeats 1000000 in
theorem rl_el {s w : Prop} {P : SX → SY → Prop} (h : ∀ (A nc lc dc ec dp T : Nat) (hsm mk tc mv ws wd : Int32) (so fi sp sc ip it fl wa lg lw ln pr pe am xr xf st ba wt ki ow su dl da ch di md iN iW nw yr yf : Nat → Int32) (ni gt src : Nat → Nat), ∀ (hT : T ≤ 2000) (hN : rl_N nc so fi sp) (hM : rl_M mk md) (hL : rl_L nc lc ni gt src ip fl lg ln) (hI : rl_I lc ni gt src lw iN iW) (hTb : rl_T nc lc gt src lw so fi sp mk (nI T) it) (hS : rl_S lc gt src lw it sc) (hD : rl_D A nc dc pr pe am xr xf st yr yf) (hW : rl_W dc pr st wt) (hC : rl_C dc xr xf wa) (hV : rl_V dc mv tc (dl_c st pr am ba xr xf it)) (hH : rl_H dc st am hsm) (hK : rl_K dc dp ec st) (hE : rl_E A T ec ow su da) (hR : rl_R (en_F ki ow su ec) ch di) (hs0 : (s → ∀ d, d < dc → ¬ dl_c st pr am ba xr xf it d)) (hw0 : (w → ∀ k, k < nc → nw k = it k)), P ((nI A), (nI nc), (nI lc), (nI dc), (nI ec), (nI dp), hsm, mk, 0, tc, mv, (nI T), ws, wd, so, fi, sp, sc, ip, it, fl, wa, lg, lw, ln, pr, pe, am, xr, xf, st, ba, wt, ki, ow, su, dl, da, ch, di) ((nI A), (nI T), (nI nc), (nI dc), (nI dp), (nI ec), ba, md, so, fi, sp, ip, iN, iW, nw, pr, pe, am, yr, yf, st, ki, ow, su, dl, da)) {u : SX} {v : SY} (I : rl_U s w u v) : P u v :=
  Exists.elim I fun A I => Exists.elim I fun nc I => Exists.elim I fun lc I => Exists.elim I fun dc I => Exists.elim I fun ec I => Exists.elim I fun dp I => Exists.elim I fun T I => Exists.elim I fun hsm I => Exists.elim I fun mk I => Exists.elim I fun tc I => Exists.elim I fun mv I => Exists.elim I fun ws I => Exists.elim I fun wd I => Exists.elim I fun so I => Exists.elim I fun fi I => Exists.elim I fun sp I => Exists.elim I fun sc I => Exists.elim I fun ip I => Exists.elim I fun it I => Exists.elim I fun fl I => Exists.elim I fun wa I => Exists.elim I fun lg I => Exists.elim I fun lw I => Exists.elim I fun ln I => Exists.elim I fun pr I => Exists.elim I fun pe I => Exists.elim I fun am I => Exists.elim I fun xr I => Exists.elim I fun xf I => Exists.elim I fun st I => Exists.elim I fun ba I => Exists.elim I fun wt I => Exists.elim I fun ki I => Exists.elim I fun ow I => Exists.elim I fun su I => Exists.elim I fun dl I => Exists.elim I fun da I => Exists.elim I fun ch I => Exists.elim I fun di I => Exists.elim I fun md I => Exists.elim I fun iN I => Exists.elim I fun iW I => Exists.elim I fun nw I => Exists.elim I fun yr I => Exists.elim I fun yf I => Exists.elim I fun ni I => Exists.elim I fun gt I => Exists.elim I fun src I => by
    obtain ⟨hu, hv, hT, hN, hM, hL, hI, hTb, hS, hD, hW, hC, hV, hH, hK, hE, hR, hs0, hw0⟩ := I
    rw [hu, hv]
    exact h A nc lc dc ec dp T hsm mk tc mv ws wd so fi sp sc ip it fl wa lg lw ln pr pe am xr xf st ba wt ki ow su dl da ch di md iN iW nw yr yf ni gt src hT hN hM hL hI hTb hS hD hW hC hV hH hK hE hR hs0 hw0
theorem rl_we {s w s' w' : Prop} {u : SX} {v : SY} (fs : s' → s) (fw : w' → w) (I : rl_U s w u v) : rl_U s' w' u v := by
  refine rl_el (P := fun u v => rl_U s' w' u v) ?_ I
  intro A nc lc dc ec dp T hsm mk tc mv ws wd so fi sp sc ip it fl wa lg lw ln pr pe am xr xf st ba wt ki ow su dl da ch di md iN iW nw yr yf ni gt src hT hN hM hL hI hTb hS hD hW hC hV hH hK hE hR hs0 hw0
  exact rl_in hT hN hM hL hI hTb hS hD hW hC hV hH hK hE hR (fun h => hs0 (fs h)) (fun h => hw0 (fw h))
end RL
end
section
section DL
variable {A nc lc dc ec dp T : Nat} {hsm mk dy tc mv ws wd : Int32} {so fi sp sc ip it fl wa lg lw ln pr pe am xr xf st ba wt ki ow su dl da ch di md iN iW nw yr yf : Nat → Int32} {ni gt src : Nat → Nat}
theorem dl_cw {ta : Nat → Int32} {d : Nat} (hD : rl_D A nc dc pr pe am xr xf st yr yf) (hnc : nc ≤ 24) (hC : rl_C dc xr xf wa) (hd : d < dc) (h : ∀ j, j < nc → bt (wa j) d = true → ta j = it j) : dl_c st pr am ba xr xf ta d ↔ dl_c st pr am ba xr xf it d := by
  unfold dl_c
  rcases (hD.2.2.1 d hd).2.2.2.2.2 with ⟨_, h1, h2⟩ | ⟨r, f, hr, hf, er, ef⟩
  · constructor
    · intro w
      rcases w with w | w
      · exact absurd w.1 h1
      · exact absurd w.1 h2
    · intro w
      rcases w with w | w
      · exact absurd w.1 h1
      · exact absurd w.1 h2
  · have cr : (nI r).toNatClampNeg = r := nI_clamp (by omega)
    have cf : (nI f).toNatClampNeg = f := nI_clamp (by omega)
    rw [er, ef, cr, cf, h r hr ((hC d hd).1 r (by omega) er), h f hf ((hC d hd).2 f (by omega) ef)]
theorem dl_ci {ta : Nat → Int32} {d : Nat} (hD : rl_D A nc dc pr pe am xr xf st yr yf) (hnc : nc ≤ 24) (hd : d < dc) (h : ∀ j, j < nc → ta j = it j) : dl_c st pr am ba xr xf ta d ↔ dl_c st pr am ba xr xf it d := by
  unfold dl_c
  rcases (hD.2.2.1 d hd).2.2.2.2.2 with ⟨_, h1, h2⟩ | ⟨r, f, hr, hf, er, ef⟩
  · constructor
    · intro w
      rcases w with w | w
      · exact absurd w.1 h1
      · exact absurd w.1 h2
    · intro w
      rcases w with w | w
      · exact absurd w.1 h1
      · exact absurd w.1 h2
  · have cr : (nI r).toNatClampNeg = r := nI_clamp (by omega)
    have cf : (nI f).toNatClampNeg = f := nI_clamp (by omega)
    rw [er, ef, cr, cf, h r hr, h f hf]
/-- a deal that waits or is held has its two nodes -/
theorem dl_nd {d : Nat} (hD : rl_D A nc dc pr pe am xr xf st yr yf) (hd : d < dc) (h : st d = 1 ∨ st d = 2) : ∃ r f, r < nc ∧ f < nc ∧ xr d = nI r ∧ xf d = nI f := by
  rcases (hD.2.2.1 d hd).2.2.2.2.2 with ⟨_, h1, h2⟩ | w
  · rcases h with h | h
    · exact absurd h h1
    · exact absurd h h2
  · exact w
theorem dl_xc {post : Int32 → Prop} {d : Nat} (hD : rl_D A nc dc pr pe am xr xf st yr yf) (hnc : nc ≤ 24) (hd : d < dc) (K1 : dl_c st pr am ba xr xf it d → post 1) (K0 : ¬ dl_c st pr am ba xr xf it d → post 0) : wpX_canMove post ((nI A), (nI nc), (nI lc), (nI dc), (nI ec), (nI dp), hsm, mk, dy, tc, mv, (nI T), ws, wd, so, fi, sp, sc, ip, it, fl, wa, lg, lw, ln, pr, pe, am, xr, xf, st, ba, wt, ki, ow, su, dl, da, ch, di) (nI d) := by
  have h12 := hD.1
  have hA := hD.2.1
  have c : (nI d).toNatClampNeg = d := nI_clamp (by omega)
  have ii : vp_in (nI d) 12 := vp_in_nI (by omega) (by omega)
  obtain ⟨⟨p, hp, ep⟩, _⟩ := hD.2.2.1 d hd
  unfold wpX_canMove
  dsimp only
  rw [c]
  refine ⟨ii, br_c (fun h1 => ⟨ii, ?_, ii, br_c (fun h => K0 ?_) (fun h => K1 (Or.inl ⟨h1, h⟩))⟩) (fun h1 => ⟨ii, br_c (fun h2 => ?_) (fun h2 => K0 ?_)⟩)⟩
  · rw [ep]; exact vp_in_nI (by omega) (by omega)
  · rintro (w | w)
    · exact w.2 h
    · rw [h1] at w; exact absurd w.1 (by decide)
  · obtain ⟨r, f, hr, hf, er, ef⟩ := dl_nd hD hd (Or.inr h2)
    refine ⟨ii, by rw [er]; exact vp_in_nI (by omega) (by omega), br_c (fun z1 => ⟨ii, by rw [ef]; exact vp_in_nI (by omega) (by omega), br_c (fun z2 => K0 ?_) (fun z2 => K1 (Or.inr ⟨h2, Or.inr z2⟩))⟩) (fun z1 => K1 (Or.inr ⟨h2, Or.inl z1⟩))⟩
    rintro (w | w)
    · exact h1 w.1
    · rcases w.2 with w | w
      · exact w z1
      · exact w z2
  · rintro (w | w)
    · exact h1 w.1
    · exact h2 w.1
theorem dl_yc {post : Int32 → Prop} {d : Nat} (hD : rl_D A nc dc pr pe am xr xf st yr yf) (hnc : nc ≤ 24) (hw : ∀ k, k < nc → nw k = it k) (hd : d < dc) (K1 : dl_c st pr am ba xr xf it d → post 1) (K0 : ¬ dl_c st pr am ba xr xf it d → post 0) : wpY_canMove post ((nI A), (nI T), (nI nc), (nI dc), (nI dp), (nI ec), ba, md, so, fi, sp, ip, iN, iW, nw, pr, pe, am, yr, yf, st, ki, ow, su, dl, da) (nI d) := by
  have h12 := hD.1
  have hA := hD.2.1
  have c : (nI d).toNatClampNeg = d := nI_clamp (by omega)
  have ii : vp_in (nI d) 12 := vp_in_nI (by omega) (by omega)
  obtain ⟨⟨p, hp, ep⟩, _, _, y1, y2, _⟩ := hD.2.2.1 d hd
  unfold wpY_canMove
  dsimp only
  rw [c, y1, y2]
  refine ⟨ii, br_c (fun h1 => ⟨ii, ?_, ii, br_c (fun h => K0 ?_) (fun h => K1 (Or.inl ⟨h1, h⟩))⟩) (fun h1 => ⟨ii, br_c (fun h2 => ?_) (fun h2 => K0 ?_)⟩)⟩
  · rw [ep]; exact vp_in_nI (by omega) (by omega)
  · rintro (w | w)
    · exact w.2 h
    · rw [h1] at w; exact absurd w.1 (by decide)
  · obtain ⟨r, f, hr, hf, er, ef⟩ := dl_nd hD hd (Or.inr h2)
    have cr : (nI r).toNatClampNeg = r := nI_clamp (by omega)
    have cf : (nI f).toNatClampNeg = f := nI_clamp (by omega)
    have q1 : nw (xr d).toNatClampNeg = it (xr d).toNatClampNeg := by rw [er, cr]; exact hw r hr
    have q2 : nw (xf d).toNatClampNeg = it (xf d).toNatClampNeg := by rw [ef, cf]; exact hw f hf
    rw [q1, q2]
    refine ⟨ii, by rw [er]; exact vp_in_nI (by omega) (by omega), br_c (fun z1 => ⟨ii, by rw [ef]; exact vp_in_nI (by omega) (by omega), br_c (fun z2 => K0 ?_) (fun z2 => K1 (Or.inr ⟨h2, Or.inr z2⟩))⟩) (fun z1 => K1 (Or.inr ⟨h2, Or.inl z1⟩))⟩
    rintro (w | w)
    · exact h1 w.1
    · rcases w.2 with w | w
      · exact w z1
      · exact w z2
  · rintro (w | w)
    · exact h1 w.1
    · exact h2 w.1
theorem dl_rl {post : SX → Prop} {mv0 : Int32} (hD : rl_D A nc dc pr pe am xr xf st yr yf) (hnc : nc ≤ 24) (hV : rl_V dc mv0 tc (dl_c st pr am ba xr xf it))
    (K : ∀ mv' : Int32, (∀ d, d < 32 → (bt mv' d = true ↔ (d < dc ∧ dl_c st pr am ba xr xf it d))) → post ((nI A), (nI nc), (nI lc), (nI dc), (nI ec), (nI dp), hsm, mk, dy, 0, mv', (nI T), ws, wd, so, fi, sp, sc, ip, it, fl, wa, lg, lw, ln, pr, pe, am, xr, xf, st, ba, wt, ki, ow, su, dl, da, ch, di)) :
    ∀ (n k : Nat) (mv1 : Int32), k ≤ dc → dc < n + k → (∀ j, j < k → (bt mv1 j = true ↔ dl_c st pr am ba xr xf it j)) → (∀ j, k ≤ j → j < 32 → bt mv1 j = bt mv0 j) →
      wX_refresh_2 post (nI A) (nI nc) (nI lc) (nI dc) (nI ec) (nI dp) hsm mk dy tc (nI T) ws wd so fi sp sc ip it fl wa lg lw ln pr pe am xr xf st ba wt ki ow su dl da ch di n (nI k) mv1 := by
  have h12 := hD.1
  intro n
  induction n with
  | zero => intro k mv1 h1 h2; exact absurd h1 (by omega)
  | succ n ih =>
    intro k mv1 hk hn hlo hhi
    by_cases q : k = dc
    · subst q
      refine br_t (nI_le (Nat.le_refl _) (by omega)) (K mv1 (fun d hd => ?_))
      rcases Nat.lt_or_ge d k with w | w
      · rw [hlo d w]
        exact ⟨fun z => ⟨w, z⟩, fun z => z.2⟩
      · rw [hhi d w hd, hV.2 d w hd]
        exact ⟨fun z => absurd z (by decide), fun z => absurd z.1 (by omega)⟩
    · have hk2 : k < dc := by omega
      refine br_f (nI_ge (by omega) (by omega)) (nm_e (br_c (fun h => nm_r (nI_1 k) (ih (k + 1) mv1 (by omega) (by omega) (fun j hj => ?_) (fun j h1 h2 => hhi j (by omega) h2))) (fun h => ?_)))
      · by_cases e : j = k
        · rw [e, hhi k (Nat.le_refl _) (by omega)]
          exact hV.1 k hk2 ((eb_hit tc (by omega)).mp h)
        · exact hlo j (by omega)
      · refine dl_xc hD hnc hk2 (fun c1 => ?_) (fun c0 => ?_)
        · refine br_f en_10 (nm_e (nm_r (nI_1 k) (ih (k + 1) _ (by omega) (by omega) (fun j hj => ?_) (fun j h1 h2 => ?_))))
          · rw [eb_set mv1 (by omega) (by omega)]
            by_cases e : j = k
            · rw [e, decide_eq_true rfl, Bool.or_true]
              exact ⟨fun _ => c1, fun _ => rfl⟩
            · rw [decide_eq_false e, Bool.or_false]
              exact hlo j (by omega)
          · rw [eb_set mv1 (by omega) h2, decide_eq_false (by omega), Bool.or_false]
            exact hhi j (by omega) h2
        · refine br_t rfl (nm_e (nm_r (nI_1 k) (ih (k + 1) _ (by omega) (by omega) (fun j hj => ?_) (fun j h1 h2 => ?_))))
          · rw [eb_clr mv1 (by omega) (by omega)]
            by_cases e : j = k
            · rw [e, decide_eq_true rfl, Bool.not_true, Bool.and_false]
              exact ⟨fun z => absurd z (by decide), fun z => absurd z c0⟩
            · rw [decide_eq_false e, Bool.not_false, Bool.and_true]
              exact hlo j (by omega)
          · rw [eb_clr mv1 (by omega) h2, decide_eq_false (by omega), Bool.not_false, Bool.and_true]
            exact hhi j (by omega) h2
theorem dl_re {post : SX → Prop} (hD : rl_D A nc dc pr pe am xr xf st yr yf) (hnc : nc ≤ 24) (hV : rl_V dc mv tc (dl_c st pr am ba xr xf it))
    (K : ∀ mv' : Int32, (∀ d, d < 32 → (bt mv' d = true ↔ (d < dc ∧ dl_c st pr am ba xr xf it d))) → post ((nI A), (nI nc), (nI lc), (nI dc), (nI ec), (nI dp), hsm, mk, dy, 0, mv', (nI T), ws, wd, so, fi, sp, sc, ip, it, fl, wa, lg, lw, ln, pr, pe, am, xr, xf, st, ba, wt, ki, ow, su, dl, da, ch, di)) : wpX_refresh post ((nI A), (nI nc), (nI lc), (nI dc), (nI ec), (nI dp), hsm, mk, dy, tc, mv, (nI T), ws, wd, so, fi, sp, sc, ip, it, fl, wa, lg, lw, ln, pr, pe, am, xr, xf, st, ba, wt, ki, ow, su, dl, da, ch, di) :=
  Exists.intro (dc + 1) (dl_rl hD hnc hV K (dc + 1) 0 mv (by omega) (by omega) (fun j h => absurd h (by omega)) (fun j _ _ => rfl))
theorem dl_yml {post : Int32 → Prop} {d : Nat} (hD : rl_D A nc dc pr pe am xr xf st yr yf) (hnc : nc ≤ 24) (hw : ∀ k, k < nc → nw k = it k) (hd : d < dc) (hc : dl_c st pr am ba xr xf it d) (hlo : ∀ j, j < d → ¬ dl_c st pr am ba xr xf it j) (K : post (nI d)) :
    ∀ (n k : Nat), k ≤ d → d < n + k → wY_nextMover_2 post (nI A) (nI T) (nI nc) (nI dc) (nI dp) (nI ec) ba md so fi sp ip iN iW nw pr pe am yr yf st ki ow su dl da n (nI k) := by
  have h12 := hD.1
  intro n
  induction n with
  | zero => intro k h1 h2; exact absurd h1 (by omega)
  | succ n ih =>
    intro k hk hn
    refine br_f (nI_ge (by omega) (by omega)) (br_f (nI_ge (b := 12) (by omega) (by decide)) (dl_yc hD hnc hw (by omega) (fun c1 => br_f en_10 ?_) (fun c0 => br_t rfl (nm_r (nI_1 k) (ih (k + 1) ?_ (by omega))))))
    · by_cases q : k = d
      · rw [q]; exact K
      · exact absurd c1 (hlo k (by omega))
    · by_cases q : k = d
      · rw [q] at c0; exact absurd hc c0
      · omega
theorem dl_ynl {post : Int32 → Prop} (hD : rl_D A nc dc pr pe am xr xf st yr yf) (hnc : nc ≤ 24) (hw : ∀ k, k < nc → nw k = it k) (hlo : ∀ j, j < dc → ¬ dl_c st pr am ba xr xf it j) (K : post (-1)) :
    ∀ (n k : Nat), k ≤ dc → dc < n + k → wY_nextMover_2 post (nI A) (nI T) (nI nc) (nI dc) (nI dp) (nI ec) ba md so fi sp ip iN iW nw pr pe am yr yf st ki ow su dl da n (nI k) := by
  have h12 := hD.1
  intro n
  induction n with
  | zero => intro k h1 h2; exact absurd h1 (by omega)
  | succ n ih =>
    intro k hk hn
    by_cases q : k = dc
    · subst q
      exact br_t (nI_le (Nat.le_refl _) (by omega)) K
    · exact br_f (nI_ge (by omega) (by omega)) (br_f (nI_ge (b := 12) (by omega) (by decide)) (dl_yc hD hnc hw (by omega) (fun c1 => absurd c1 (hlo k (by omega))) (fun c0 => br_t rfl (nm_r (nI_1 k) (ih (k + 1) (by omega) (by omega))))))
theorem dl_ym {post : Int32 → Prop} {d : Nat} (hD : rl_D A nc dc pr pe am xr xf st yr yf) (hnc : nc ≤ 24) (hw : ∀ k, k < nc → nw k = it k) (hd : d < dc) (hc : dl_c st pr am ba xr xf it d) (hlo : ∀ j, j < d → ¬ dl_c st pr am ba xr xf it j) (K : post (nI d)) : wpY_nextMover post ((nI A), (nI T), (nI nc), (nI dc), (nI dp), (nI ec), ba, md, so, fi, sp, ip, iN, iW, nw, pr, pe, am, yr, yf, st, ki, ow, su, dl, da) :=
  Exists.intro (d + 1) (dl_yml hD hnc hw hd hc hlo K (d + 1) 0 (by omega) (by omega))
theorem dl_yn {post : Int32 → Prop} (hD : rl_D A nc dc pr pe am xr xf st yr yf) (hnc : nc ≤ 24) (hw : ∀ k, k < nc → nw k = it k) (hlo : ∀ j, j < dc → ¬ dl_c st pr am ba xr xf it j) (K : post (-1)) : wpY_nextMover post ((nI A), (nI T), (nI nc), (nI dc), (nI dp), (nI ec), ba, md, so, fi, sp, ip, iN, iW, nw, pr, pe, am, yr, yf, st, ki, ow, su, dl, da) :=
  Exists.intro (dc + 1) (dl_ynl hD hnc hw hlo K (dc + 1) 0 (by omega) (by omega))
/-! a move: kind kd, account a, sum m, signed sg, new state ns -/
def dl_v (st pr pe am xr it : Nat → Int32) (d : Nat) (kd ns sg : Int32) (a m : Nat) : Prop :=
  am d = nI m ∧ ((st d = 1 ∧ kd = 1 ∧ ns = 2 ∧ pr d = nI a ∧ sg = -nI m) ∨ (¬ st d = 1 ∧ it (xr d).toNatClampNeg = 0 ∧ kd = 3 ∧ ns = 4 ∧ pr d = nI a ∧ sg = nI m) ∨ (¬ st d = 1 ∧ ¬ it (xr d).toNatClampNeg = 0 ∧ kd = 2 ∧ ns = 3 ∧ pe d = nI a ∧ sg = nI m))
theorem dl_ve (hD : rl_D A nc dc pr pe am xr xf st yr yf) {d : Nat} (hd : d < dc) : ∃ (kd ns sg : Int32) (a m : Nat), a < 6 ∧ a < A ∧ m ≤ 1000 ∧ dl_v st pr pe am xr it d kd ns sg a m := by
  have hA := hD.2.1
  obtain ⟨⟨p, hp, ep⟩, ⟨q, hq, eq⟩, ⟨m, hm, em⟩, _⟩ := hD.2.2.1 d hd
  by_cases h1 : st d = 1
  · exact ⟨1, 2, -nI m, p, m, by omega, hp, hm, em, Or.inl ⟨h1, rfl, rfl, ep, rfl⟩⟩
  · by_cases h2 : it (xr d).toNatClampNeg = 0
    · exact ⟨3, 4, nI m, p, m, by omega, hp, hm, em, Or.inr (Or.inl ⟨h1, h2, rfl, rfl, ep, rfl⟩)⟩
    · exact ⟨2, 3, nI m, q, m, by omega, hq, hm, em, Or.inr (Or.inr ⟨h1, h2, rfl, rfl, eq, rfl⟩)⟩
theorem dl_yen {post : SY → Prop} {kd p1 p2 p3 : Int32} (hec : ec < 64) (K : post ((nI A), (nI T), (nI nc), (nI dc), (nI dp), (nI (ec + 1)), ba, md, so, fi, sp, ip, iN, iW, nw, pr, pe, am, yr, yf, st, (upd ki ec kd), (upd ow ec p1), (upd su ec p2), (upd dl ec p3), (upd da ec (nI T)))) : wpY_enter post ((nI A), (nI T), (nI nc), (nI dc), (nI dp), (nI ec), ba, md, so, fi, sp, ip, iN, iW, nw, pr, pe, am, yr, yf, st, ki, ow, su, dl, da) kd p1 p2 p3 := by
  have ce : (nI ec).toNatClampNeg = ec := nI_clamp (by omega)
  have ie : vp_in (nI ec) 64 := vp_in_nI hec (by omega)
  unfold wpY_enter
  dsimp only
  rw [ce]
  exact br_t (nI_lt (b := 64) hec (by decide)) ⟨ie, nm_e ⟨ie, nm_e ⟨ie, nm_e ⟨ie, nm_e ⟨ie, nm_e (nm_r (nI_1 ec) K)⟩⟩⟩⟩⟩
theorem dl_ymk {post : SY → Prop} {d : Nat} {kd ns sg : Int32} {a m : Nat} (hD : rl_D A nc dc pr pe am xr xf st yr yf) (hnc : nc ≤ 24) (hw : ∀ k, k < nc → nw k = it k) (hd : d < dc) (hec : ec < 64) (ha : a < 6) (hc : dl_c st pr am ba xr xf it d) (hv : dl_v st pr pe am xr it d kd ns sg a m)
    (K : post ((nI A), (nI T), (nI nc), (nI dc), (nI dp), (nI (ec + 1)), (upd ba a (ba a + sg)), md, so, fi, sp, ip, iN, iW, nw, pr, pe, am, yr, yf, (upd st d ns), (upd ki ec kd), (upd ow ec (nI a)), (upd su ec (nI m)), (upd dl ec (nI d)), (upd da ec (nI T)))) : wpY_makeMove post ((nI A), (nI T), (nI nc), (nI dc), (nI dp), (nI ec), ba, md, so, fi, sp, ip, iN, iW, nw, pr, pe, am, yr, yf, st, ki, ow, su, dl, da) (nI d) := by
  have h12 := hD.1
  have c : (nI d).toNatClampNeg = d := nI_clamp (by omega)
  have ca : (nI a).toNatClampNeg = a := nI_clamp (by omega)
  have ii : vp_in (nI d) 12 := vp_in_nI (by omega) (by omega)
  have ia : vp_in (nI a) 6 := vp_in_nI ha (by omega)
  obtain ⟨_, _, _, y1, y2, _⟩ := hD.2.2.1 d hd
  obtain ⟨em, hv⟩ := hv
  unfold wpY_makeMove
  dsimp only
  rw [c, em]
  rcases hv with ⟨h1, k1, k2, k3, k4⟩ | ⟨h1, h2, k1, k2, k3, k4⟩ | ⟨h1, h2, k1, k2, k3, k4⟩
  · subst k1 k2 k4
    rw [k3, ca, Int32.sub_eq_add_neg]
    exact ⟨ii, br_t h1 ⟨ii, ia, ii, ia, nm_e ⟨ii, nm_e ⟨ii, ii, dl_yen hec K⟩⟩⟩⟩
  · have h2' : st d = 2 := by
      rcases hc with w | w
      · exact absurd w.1 h1
      · exact w.1
    obtain ⟨r, f, hr, hf, er, ef⟩ := dl_nd hD hd (Or.inr h2')
    have cr : (nI r).toNatClampNeg = r := nI_clamp (by omega)
    have ir : vp_in (yr d) 24 := by rw [y1, er]; exact vp_in_nI (by omega) (by omega)
    have q1 : nw (yr d).toNatClampNeg = 0 := by
      rw [y1, er, cr, hw r hr]
      rw [er, cr] at h2
      exact h2
    subst k1 k2 k4
    rw [k3, ca]
    exact ⟨ii, br_f h1 ⟨ii, ir, br_t q1 ⟨ii, ia, ii, ia, nm_e ⟨ii, nm_e ⟨ii, ii, dl_yen hec K⟩⟩⟩⟩⟩
  · have h2' : st d = 2 := by
      rcases hc with w | w
      · exact absurd w.1 h1
      · exact w.1
    obtain ⟨r, f, hr, hf, er, ef⟩ := dl_nd hD hd (Or.inr h2')
    have cr : (nI r).toNatClampNeg = r := nI_clamp (by omega)
    have ir : vp_in (yr d) 24 := by rw [y1, er]; exact vp_in_nI (by omega) (by omega)
    have q1 : ¬ nw (yr d).toNatClampNeg = 0 := by
      rw [y1, er, cr, hw r hr]
      rw [er, cr] at h2
      exact h2
    subst k1 k2 k4
    rw [k3, ca]
    exact ⟨ii, br_f h1 ⟨ii, ir, br_f q1 ⟨ii, ia, ii, ia, nm_e ⟨ii, nm_e ⟨ii, ii, dl_yen hec K⟩⟩⟩⟩⟩
/-- what the component's move does to waiting sets, held sum and touched set -/
def dl_w (wt wt1 am : Nat → Int32) (hs hs1 tc tc1 ns : Int32) (a d : Nat) (st : Nat → Int32) : Prop :=
  (∀ p j, j < 32 → bt (wt p) j = true → j ≠ d → bt (wt1 p) j = true) ∧ ((ns = 2 ∧ ¬ st d = 2 ∧ hs1 = hs + am d) ∨ (¬ ns = 2 ∧ st d = 2 ∧ hs1 = hs - am d)) ∧ (∀ j, j < 32 → bt tc1 j = false → j ≠ d ∧ bt tc j = false ∧ bt (wt1 a) j = false)
theorem dl_tc {tc w : Int32} {d : Nat} (hd : d < 32) : ∀ j, j < 32 → bt ((tc ||| ((1 : Int32) <<< (nI d &&& 31))) ||| w) j = false → j ≠ d ∧ bt tc j = false ∧ bt w j = false := by
  intro j hj h
  rw [b_or, eb_set tc hd hj] at h
  by_cases e : j = d
  · rw [decide_eq_true e, Bool.or_true, Bool.true_or] at h
    exact absurd h (by decide)
  · rw [decide_eq_false e, Bool.or_false] at h
    revert h
    cases bt tc j
    · cases bt w j
      · intro _; exact ⟨e, rfl, rfl⟩
      · intro z; exact absurd z (by decide)
    · intro z; exact absurd z (by simp)
theorem dl_xmk {post : SX → Prop} {d : Nat} {kd ns sg : Int32} {a m : Nat} (hD : rl_D A nc dc pr pe am xr xf st yr yf) (hnc : nc ≤ 24) (hd : d < dc) (hec : ec < 64) (ha : a < 6) (hm : m ≤ 1000) (hc : dl_c st pr am ba xr xf it d) (hv : dl_v st pr pe am xr it d kd ns sg a m)
    (hE : ∀ i, i < ec → ∃ q, q ≤ 1000 ∧ su i = nI q) (hR : rl_R (en_F ki ow su ec) ch di)
    (K : ∀ (ch' di' wt' : Nat → Int32) (hs' tc' : Int32), rl_R (en_F (upd ki ec kd) (upd ow ec (nI a)) (upd su ec (nI m)) (ec + 1)) ch' di' → dl_w wt wt' am hsm hs' tc tc' ns a d st →
      post ((nI A), (nI nc), (nI lc), (nI dc), (nI (ec + 1)), (nI dp), hs', mk, dy, tc', mv, (nI T), ws, wd, so, fi, sp, sc, ip, it, fl, wa, lg, lw, ln, pr, pe, am, xr, xf, (upd st d ns), (upd ba a (ba a + sg)), wt', (upd ki ec kd), (upd ow ec (nI a)), (upd su ec (nI m)), (upd dl ec (nI d)), (upd da ec (nI T)), ch', di')) : wpX_makeMove post ((nI A), (nI nc), (nI lc), (nI dc), (nI ec), (nI dp), hsm, mk, dy, tc, mv, (nI T), ws, wd, so, fi, sp, sc, ip, it, fl, wa, lg, lw, ln, pr, pe, am, xr, xf, st, ba, wt, ki, ow, su, dl, da, ch, di) (nI d) := by
  have h12 := hD.1
  have c : (nI d).toNatClampNeg = d := nI_clamp (by omega)
  have ca : (nI a).toNatClampNeg = a := nI_clamp (by omega)
  have ii : vp_in (nI d) 12 := vp_in_nI (by omega) (by omega)
  have ia : vp_in (nI a) 6 := vp_in_nI ha (by omega)
  obtain ⟨em, hv⟩ := hv
  unfold wpX_makeMove
  dsimp only
  rw [c, em]
  rcases hv with ⟨h1, k1, k2, k3, k4⟩ | ⟨h1, h2, k1, k2, k3, k4⟩ | ⟨h1, h2, k1, k2, k3, k4⟩
  · rw [k3]
    refine nm_e ⟨ii, nm_e (nm_e ⟨ii, br_t h1 ⟨ii, nm_e ⟨ia, ia, ?_⟩⟩⟩)⟩
    rw [ca]
    refine nm_e ⟨ii, nm_e ⟨ii, xe_enter (kd := 1) (sg := sg) hec ha hm hE hR (Or.inl ⟨rfl, k4⟩) (fun ch' di' hR' => ?_)⟩⟩
    subst k1 k2
    refine K ch' di' (upd wt a (wt a &&& (((1 : Int32) <<< (nI d &&& 31)) ^^^ (-1)))) (hsm + nI m) _ hR' ⟨fun p j hj hb hne => ?_, Or.inl ⟨rfl, by rw [h1]; decide, by rw [em]⟩, dl_tc (by omega)⟩
    by_cases e : p = a
    · rw [e, pk_us, eb_clr _ (by omega) hj, ← e, hb, decide_eq_false hne]; rfl
    · rw [pk_un e]; exact hb
  · have h2' : st d = 2 := by
      rcases hc with w | w
      · exact absurd w.1 h1
      · exact w.1
    obtain ⟨r, f, hr, hf, er, ef⟩ := dl_nd hD hd (Or.inr h2')
    have ir : vp_in (xr d) 24 := by rw [er]; exact vp_in_nI (by omega) (by omega)
    rw [k3]
    refine nm_e ⟨ii, nm_e (nm_e ⟨ii, br_f h1 ⟨ii, ir, br_t h2 ⟨ii, nm_e ⟨ii, nm_e ⟨ii, xe_enter (kd := 3) (sg := sg) hec ha hm hE hR (Or.inr ⟨by decide, k4⟩) (fun ch' di' hR' => ?_)⟩⟩⟩⟩⟩)⟩
    subst k1 k2
    exact K ch' di' wt _ _ hR' ⟨fun p j hj hb hne => hb, Or.inr ⟨by decide, h2', by rw [em]⟩, dl_tc (by omega)⟩
  · have h2' : st d = 2 := by
      rcases hc with w | w
      · exact absurd w.1 h1
      · exact w.1
    obtain ⟨r, f, hr, hf, er, ef⟩ := dl_nd hD hd (Or.inr h2')
    have ir : vp_in (xr d) 24 := by rw [er]; exact vp_in_nI (by omega) (by omega)
    rw [k3]
    refine nm_e ⟨ii, nm_e (nm_e ⟨ii, br_f h1 ⟨ii, ir, br_f h2 ⟨ii, nm_e ⟨ii, nm_e ⟨ii, ii, xe_enter (kd := 2) (sg := sg) hec ha hm hE hR (Or.inr ⟨by decide, k4⟩) (fun ch' di' hR' => ?_)⟩⟩⟩⟩⟩)⟩
    subst k1 k2
    exact K ch' di' wt _ _ hR' ⟨fun p j hj hb hne => hb, Or.inr ⟨by decide, h2', by rw [em]⟩, dl_tc (by omega)⟩
end DL
end
section
section SM
variable {A nc lc dc ec dp T : Nat} {hsm mk dy tc mv ws wd : Int32} {so fi sp sc ip it fl wa lg lw ln pr pe am xr xf st ba wt ki ow su dl da ch di md iN iW nw yr yf : Nat → Int32} {ni gt src : Nat → Nat}
theorem sm_least (P : Nat → Prop) : ∀ n, P n → ∃ k, k ≤ n ∧ P k ∧ ∀ j, j < k → ¬ P j := by
  intro n
  induction n using Nat.strongRecOn with
  | _ n ih =>
    intro h
    by_cases q : ∃ j, j < n ∧ P j
    · obtain ⟨j, hj, hp⟩ := q
      obtain ⟨k, h1, h2, h3⟩ := ih j hj hp
      exact ⟨k, by omega, h2, h3⟩
    · exact ⟨n, Nat.le_refl _, h, fun j hj hp => q ⟨j, hj, hp⟩⟩
theorem sm_ns {d : Nat} {kd ns sg : Int32} {a m : Nat} (hc : dl_c st pr am ba xr xf it d) (hv : dl_v st pr pe am xr it d kd ns sg a m) : ¬ ns = 1 ∧ rl_pt (st d) = rl_pt ns + 1 ∧ (st d = 1 ∨ st d = 2) := by
  rcases hv.2 with ⟨h1, _, k2, _⟩ | ⟨h1, h2, _, k2, _⟩ | ⟨h1, h2, _, k2, _⟩
  · rw [k2, h1]; exact ⟨by decide, by decide, Or.inl rfl⟩
  · have h2' : st d = 2 := by
      rcases hc with w | w
      · exact absurd w.1 h1
      · exact w.1
    rw [k2, h2']; exact ⟨by decide, by decide, Or.inr rfl⟩
  · have h2' : st d = 2 := by
      rcases hc with w | w
      · exact absurd w.1 h1
      · exact w.1
    rw [k2, h2']; exact ⟨by decide, by decide, Or.inr rfl⟩
theorem sm_D {d : Nat} {ns : Int32} (hD : rl_D A nc dc pr pe am xr xf st yr yf) (hd : d < dc) (h : st d = 1 ∨ st d = 2) : rl_D A nc dc pr pe am xr xf (upd st d ns) yr yf := by
  refine ⟨hD.1, hD.2.1, fun e he => ?_, hD.2.2.2⟩
  obtain ⟨h1, h2, h3, h4, h5, h6⟩ := hD.2.2.1 e he
  refine ⟨h1, h2, h3, h4, h5, ?_⟩
  by_cases q : e = d
  · rw [q]; exact Or.inr (dl_nd hD hd h)
  · rw [pk_un q]; exact h6
theorem sm_W {d : Nat} {ns : Int32} {wt1 : Nat → Int32} (hW : rl_W dc pr st wt) (h12 : dc ≤ 12) (hns : ¬ ns = 1) (hw1 : ∀ p j, j < 32 → bt (wt p) j = true → j ≠ d → bt (wt1 p) j = true) : rl_W dc pr (upd st d ns) wt1 := by
  intro e he h
  by_cases q : e = d
  · rw [q, pk_us] at h; exact absurd h hns
  · rw [pk_un q] at h
    exact hw1 _ e (by omega) (hW e he h) q
theorem sm_V {d a : Nat} {ns sg mv1 tc1 : Int32} {wt1 : Nat → Int32} (hD : rl_D A nc dc pr pe am xr xf st yr yf) (hW1 : rl_W dc pr (upd st d ns) wt1)
    (hmv : ∀ d, d < 32 → (bt mv1 d = true ↔ (d < dc ∧ dl_c st pr am ba xr xf it d))) (ht : ∀ j, j < 32 → bt tc1 j = false → j ≠ d ∧ bt (wt1 a) j = false) :
    rl_V dc mv1 tc1 (dl_c (upd st d ns) pr am (upd ba a (ba a + sg)) xr xf it) := by
  have h12 := hD.1
  refine ⟨fun e he hb => ?_, fun e h1 h2 => eb_f (fun w => ?_)⟩
  · obtain ⟨q1, q2⟩ := ht e (by omega) hb
    rw [hmv e (by omega)]
    have hcc : dl_c (upd st d ns) pr am (upd ba a (ba a + sg)) xr xf it e ↔ dl_c st pr am ba xr xf it e := by
      unfold dl_c
      rw [pk_un q1]
      by_cases h1 : st e = 1
      · have : (pr e).toNatClampNeg ≠ a := by
          intro w
          have := hW1 e he (by rw [pk_un q1]; exact h1)
          rw [w, q2] at this
          exact absurd this (by decide)
        rw [pk_un this]
      · constructor
        · rintro (w | w)
          · exact absurd w.1 h1
          · exact Or.inr w
        · rintro (w | w)
          · exact absurd w.1 h1
          · exact Or.inr w
    rw [hcc]
    exact ⟨fun z => z.2, fun z => ⟨he, z⟩⟩
  · exact absurd ((hmv e h2).mp w).1 (by omega)
theorem sm_H {d : Nat} {ns hs1 : Int32} (hH : rl_H dc st am hsm) (hd : d < dc) (h : (ns = 2 ∧ ¬ st d = 2 ∧ hs1 = hsm + am d) ∨ (¬ ns = 2 ∧ st d = 2 ∧ hs1 = hsm - am d)) : rl_H dc (upd st d ns) am hs1 := by
  unfold rl_H at hH ⊢
  rcases h with ⟨h1, h2, h3⟩ | ⟨h1, h2, h3⟩
  · rw [h3, hH]
    refine (es_i_ad (k := d) hd (fun i hi hne => ?_) ?_).symm
    · rw [pk_un hne]
    · rw [pk_us, if_pos h1, if_neg h2, Int32.zero_add]
  · rw [h3, hH, Int32.sub_eq_add_neg]
    refine (es_i_ad (k := d) hd (fun i hi hne => ?_) ?_).symm
    · rw [pk_un hne]
    · rw [pk_us, if_neg h1, if_pos h2, Int32.add_right_neg]
theorem sm_n {d : Nat} {ns : Int32} (hd : d < dc) (h : rl_pt (st d) = rl_pt ns + 1) : es_n (fun d => rl_pt (st d)) dc = es_n (fun e => rl_pt (upd st d ns e)) dc + 1 := by
  have := es_n_ch (f := fun d => rl_pt (st d)) (g := fun e => rl_pt (upd st d ns e)) (k := d) dc hd (fun i hi hne => by rw [pk_un hne])
  try dsimp only at this
  rw [pk_us] at this
  omega
theorem sm_E {a m : Nat} (hE : rl_E A T ec ow su da) (ha : a < A) (hm : m ≤ 1000) (hT : T < 2 ^ 31) : rl_E A T (ec + 1) (upd ow ec (nI a)) (upd su ec (nI m)) (upd da ec (nI T)) := by
  refine ⟨fun i hi => ?_, fun i j hij hj => ?_⟩
  · by_cases q : i = ec
    · rw [q, pk_us, pk_us, pk_us]
      exact ⟨⟨a, ha, rfl⟩, ⟨m, hm, rfl⟩, ⟨T, Nat.le_refl _, rfl⟩⟩
    · rw [pk_un q, pk_un q, pk_un q]
      exact hE.1 i (by omega)
  · by_cases q : j = ec
    · by_cases q2 : i = ec
      · rw [q, q2]; exact Int32.le_refl _
      · obtain ⟨_, _, t, ht, et⟩ := hE.1 i (by omega)
        rw [q, pk_us, pk_un q2, et]
        exact nI_le ht hT
    · rw [pk_un q, pk_un (by omega)]
      exact hE.2 i j hij (by omega)
theorem sm_find {post : Int32 → SX → Prop} {J : Int32 → Int32 → Int32 → Int32 → Int32 → Int32 → Int32 → Int32 → Int32 → Int32 → Int32 → Int32 → Int32 → Int32 → Int32 → Int32 → (Nat → Int32) → (Nat → Int32) → (Nat → Int32) → (Nat → Int32) → (Nat → Int32) → (Nat → Int32) → (Nat → Int32) → (Nat → Int32) → (Nat → Int32) → (Nat → Int32) → (Nat → Int32) → (Nat → Int32) → (Nat → Int32) → (Nat → Int32) → (Nat → Int32) → (Nat → Int32) → (Nat → Int32) → (Nat → Int32) → (Nat → Int32) → (Nat → Int32) → (Nat → Int32) → (Nat → Int32) → (Nat → Int32) → (Nat → Int32) → (Nat → Int32) → (Nat → Int32) → Prop}
    {x1 x2 : Int32} {d : Nat} (hd : d < 12) (hb : bt mv d = true) (hlo : ∀ j, j < d → bt mv j = false) (K : wX_settle_49 post J x1 x2 (nI d) (nI A) (nI nc) (nI lc) (nI dc) (nI ec) (nI dp) hsm mk dy tc mv (nI T) ws wd so fi sp sc ip it fl wa lg lw ln pr pe am xr xf st ba wt ki ow su dl da ch di) :
    ∀ (n k : Nat), k ≤ d → d < n + k → wX_settle_26 post J x1 x2 (nI A) (nI nc) (nI lc) (nI dc) (nI ec) (nI dp) hsm mk dy tc mv (nI T) ws wd so fi sp sc ip it fl wa lg lw ln pr pe am xr xf st ba wt ki ow su dl da ch di n (nI k) := by
  intro n
  induction n with
  | zero => intro k h1 h2; exact absurd h1 (by omega)
  | succ n ih =>
    intro k hk hn
    by_cases q : k = d
    · subst q
      exact br_c (fun _ => K) (fun _ => br_f (fun w => by rw [(eb_t0 mv (by omega)).mp w] at hb; exact absurd hb (by decide)) K)
    · exact br_f (nI_ge (b := 11) (by omega) (by decide)) (br_t ((eb_t0 mv (by omega)).mpr (hlo k (by omega))) (nm_r (nI_1 k) (ih (k + 1) (by omega) (by omega))))
theorem sm_idle {postY : Int32 → SY → Prop} {b : Nat} (hD : rl_D A nc dc pr pe am xr xf st yr yf) (hnc : nc ≤ 24) (hw : ∀ k, k < nc → nw k = it k) (hlo : ∀ j, j < dc → ¬ dl_c st pr am ba xr xf it j) (K : postY (nI b) ((nI A), (nI T), (nI nc), (nI dc), (nI dp), (nI ec), ba, md, so, fi, sp, ip, iN, iW, nw, pr, pe, am, yr, yf, st, ki, ow, su, dl, da)) :
    ∀ (n q : Nat), q ≤ 24 → 24 < n + q → wY_settle_12 postY n (nI b) (nI q) (nI A) (nI T) (nI nc) (nI dc) (nI dp) (nI ec) ba md so fi sp ip iN iW nw pr pe am yr yf st ki ow su dl da := by
  intro n
  induction n with
  | zero => intro q h1 h2; exact absurd h1 (by omega)
  | succ n ih =>
    intro q hq hn
    by_cases e : q = 24
    · subst e
      exact br_t (nI_le (a := 24) (Nat.le_refl _) (by decide)) K
    · exact br_f (nI_ge (b := 24) (by omega) (by decide)) (dl_yn hD hnc hw hlo (br_t (by decide) (nm_r (nI_1 q) (ih (q + 1) (by omega) (by omega)))))
/-- the day of a state -/
def sm_t (u : SX) : Int32 := u.2.2.2.2.2.2.2.2.2.2.2.1
theorem sm_run {post : Int32 → SX → Prop} (hT : T ≤ 2000) (hN : rl_N nc so fi sp) (hM : rl_M mk md) (hL : rl_L nc lc ni gt src ip fl lg ln) (hI : rl_I lc ni gt src lw iN iW) (hTb : rl_T nc lc gt src lw so fi sp mk (nI T) it) (hS : rl_S lc gt src lw it sc) (hC : rl_C dc xr xf wa) (hw : ∀ k, k < nc → nw k = it k) :
    ∀ (n ec : Nat) (hsm tc mv : Int32) (wt ba st ki ow su dl da ch di : Nat → Int32) (b q : Nat), rl_D A nc dc pr pe am xr xf st yr yf → rl_W dc pr st wt → rl_V dc mv tc (dl_c st pr am ba xr xf it) → rl_H dc st am hsm → rl_K dc dp ec st → rl_E A T ec ow su da → rl_R (en_F ki ow su ec) ch di →
      es_n (fun d => rl_pt (st d)) dc ≤ n → n + q ≤ 24 →
      (∀ (r : Nat) (u' : SX) (v' : SY), rl_U True True u' v' → sm_t u' = nI T → (∀ postY : Int32 → SY → Prop, postY (nI r) v' → wY_settle_12 postY (25 - q) (nI b) (nI q) (nI A) (nI T) (nI nc) (nI dc) (nI dp) (nI ec) ba md so fi sp ip iN iW nw pr pe am yr yf st ki ow su dl da) → post (nI r) u') →
      wX_settle_4 post (n + 1) (nI b) (nI q) (nI A) (nI nc) (nI lc) (nI dc) (nI ec) (nI dp) hsm mk 0 tc mv (nI T) ws wd so fi sp sc ip it fl wa lg lw ln pr pe am xr xf st ba wt ki ow su dl da ch di := by
  have hnc := hN.1
  intro n
  induction n with
  | zero =>
    intro ec hsm tc mv wt ba st ki ow su dl da ch di b q hD hW hV hH hK hE hR hn hq K
    have h12 := hD.1
    refine br_f (nI_ge (b := 25) (by omega) (by decide)) (dl_re hD hnc hV (fun mv1 hmv => ?_))
    have none : ∀ d, d < dc → ¬ dl_c st pr am ba xr xf it d := by
      intro d hd hc
      have g1 := es_n_ge (f := fun d => rl_pt (st d)) (k := d) dc hd
      try dsimp only at g1
      rcases hc with w | w
      · rw [w.1, show rl_pt 1 = 2 by decide] at g1; omega
      · rw [w.1, show rl_pt 2 = 1 by decide] at g1; omega
    have hz : mv1 = 0 := eb_z (fun i hi => eb_f (fun w => none i ((hmv i hi).mp w).1 ((hmv i hi).mp w).2))
    refine br_t hz (K b _ ((nI A), (nI T), (nI nc), (nI dc), (nI dp), (nI ec), ba, md, so, fi, sp, ip, iN, iW, nw, pr, pe, am, yr, yf, st, ki, ow, su, dl, da) (rl_in hT hN hM hL hI hTb hS hD hW hC ⟨fun d hd _ => by rw [hmv d (by omega)]; exact ⟨fun z => z.2, fun z => ⟨hd, z⟩⟩, fun d h1 h2 => eb_f (fun w => absurd ((hmv d h2).mp w).1 (by omega))⟩ hH hK hE hR (fun _ => none) (fun _ => hw)) rfl (fun postY hp => sm_idle hD hnc hw none hp (25 - q) q (by omega) (by omega)))
  | succ n ih =>
    intro ec hsm tc mv wt ba st ki ow su dl da ch di b q hD hW hV hH hK hE hR hn hq K
    have h12 := hD.1
    refine br_f (nI_ge (b := 25) (by omega) (by decide)) (dl_re hD hnc hV (fun mv1 hmv => ?_))
    by_cases hz : mv1 = 0
    · have none : ∀ d, d < dc → ¬ dl_c st pr am ba xr xf it d := by
        intro d hd hc
        have := (hmv d (by omega)).mpr ⟨hd, hc⟩
        rw [hz, b_0] at this
        exact absurd this (by decide)
      refine br_t hz (K b _ ((nI A), (nI T), (nI nc), (nI dc), (nI dp), (nI ec), ba, md, so, fi, sp, ip, iN, iW, nw, pr, pe, am, yr, yf, st, ki, ow, su, dl, da) (rl_in hT hN hM hL hI hTb hS hD hW hC ⟨fun d hd _ => by rw [hmv d (by omega)]; exact ⟨fun z => z.2, fun z => ⟨hd, z⟩⟩, fun d h1 h2 => eb_f (fun w => absurd ((hmv d h2).mp w).1 (by omega))⟩ hH hK hE hR (fun _ => none) (fun _ => hw)) rfl (fun postY hp => sm_idle hD hnc hw none hp (25 - q) q (by omega) (by omega)))
    · have hex : ∃ i, i < 32 ∧ bt mv1 i = true := by
        refine Classical.byContradiction (fun w => hz (eb_z (fun i hi => eb_f (fun z => w ⟨i, hi, z⟩))))
      obtain ⟨i, hi, hbi⟩ := hex
      obtain ⟨d, hdi, hbd, hlo⟩ := sm_least (fun j => bt mv1 j = true) i hbi
      obtain ⟨hd, hc⟩ := (hmv d (by omega)).mp hbd
      obtain ⟨kd, ns, sg, a, m, ha6, haA, hm, hv⟩ := dl_ve (it := it) hD hd
      obtain ⟨hns, hpt, h12s⟩ := sm_ns hc hv
      have hsn := sm_n (ns := ns) hd hpt
      have hK1 := hK.1
      have hK2 := hK.2
      have hec : ec < 64 := by omega
      have hE1 : ∀ i, i < ec → ∃ q, q ≤ 1000 ∧ su i = nI q := fun i hi => (hE.1 i hi).2.1
      refine br_f hz (Exists.intro (d + 1) (sm_find (d := d) (by omega) hbd (fun j hj => eb_f (hlo j hj)) ?_ (d + 1) 0 (by omega) (by omega)))
      refine dl_xmk hD hnc hd hec ha6 hm hc hv hE1 hR (fun ch' di' wt' hs' tc' hR' hw' => ?_)
      have hW' := sm_W hW h12 hns hw'.1
      refine nm_r (nI_1 b) (nm_r (nI_1 q) (ih (ec + 1) hs' tc' mv1 wt' (upd ba a (ba a + sg)) (upd st d ns) (upd ki ec kd) (upd ow ec (nI a)) (upd su ec (nI m)) (upd dl ec (nI d)) (upd da ec (nI T)) ch' di' (b + 1) (q + 1) (sm_D hD hd h12s) hW' (sm_V hD hW' hmv (fun j hj hb => ⟨(hw'.2.2 j hj hb).1, (hw'.2.2 j hj hb).2.2⟩)) (sm_H hH hd hw'.2.1) ⟨by omega, hK2⟩ (sm_E hE haA hm (by omega)) hR' (by omega) (by omega) (fun r u' v' hU ht hY => K r u' v' hU ht (fun postY hp => ?_))))
      rw [show 25 - q = (25 - (q + 1)) + 1 by omega]
      exact br_f (nI_ge (b := 24) (by omega) (by decide)) (dl_ym hD hnc hw hd hc (fun j hj w => hlo j hj ((hmv j (by omega)).mpr ⟨by omega, w⟩)) (br_f (nI_pos (by omega)) (dl_ymk hD hnc hw hd hec ha6 hc hv (nm_r (nI_1 b) (nm_r (nI_1 q) (hY postY hp))))))
theorem sm_settle2 {s w : Prop} {post : Int32 → SX → Prop} (hT : T ≤ 2000) (hN : rl_N nc so fi sp) (hM : rl_M mk md) (hL : rl_L nc lc ni gt src ip fl lg ln) (hI : rl_I lc ni gt src lw iN iW) (hTb : rl_T nc lc gt src lw so fi sp mk (nI T) it) (hS : rl_S lc gt src lw it sc) (hD : rl_D A nc dc pr pe am xr xf st yr yf) (hW : rl_W dc pr st wt) (hC : rl_C dc xr xf wa) (hV : rl_V dc mv tc (dl_c st pr am ba xr xf it)) (hH : rl_H dc st am hsm) (hK : rl_K dc dp ec st) (hE : rl_E A T ec ow su da) (hR : rl_R (en_F ki ow su ec) ch di) (hs0 : (s → ∀ d, d < dc → ¬ dl_c st pr am ba xr xf it d)) (hw0 : (w → ∀ k, k < nc → nw k = it k))
    (K : ∀ (r : Int32) (u' : SX) (v' : SY), rl_U True True u' v' → sm_t u' = nI T → (∀ postY : Int32 → SY → Prop, postY r v' → wpY_settle postY ((nI A), (nI T), (nI nc), (nI dc), (nI dp), (nI ec), ba, md, so, fi, sp, ip, iN, iW, nw, pr, pe, am, yr, yf, st, ki, ow, su, dl, da)) → post r u') : wpX_settle post ((nI A), (nI nc), (nI lc), (nI dc), (nI ec), (nI dp), hsm, mk, 0, tc, mv, (nI T), ws, wd, so, fi, sp, sc, ip, it, fl, wa, lg, lw, ln, pr, pe, am, xr, xf, st, ba, wt, ki, ow, su, dl, da, ch, di) := by
  have hG := hL.2.2.2
  obtain ⟨nw1, t1, hY0⟩ := yn_work (A := A) (T := T) (dc := dc) (dp := dp) (ec := ec) (ba := ba) (pr := pr) (pe := pe) (am := am) (yr := yr) (yf := yf) (st := st) (ki := ki) (ow := ow) (su := su) (dl := dl) (da := da) (nw := nw) (day := T) (by omega) hN hM hL.1 hI (fun e he => (hG.2.1 e he).2.1)
  have hw1 := nh_uq (fun e he => (hG.2.1 e he).2.1) t1 hTb
  have h24 : es_n (fun d => rl_pt (st d)) dc ≤ 24 := by
    have h12 := hD.1
    have := es_n_le (f := fun d => rl_pt (st d)) (c := 2) dc (fun i _ => by
      show rl_pt (st i) ≤ 2
      unfold rl_pt
      split
      · omega
      · split <;> omega)
    omega
  exact Exists.intro 25 (sm_run (nw := nw1) (q := 0) (b := 0) hT hN hM hL hI hTb hS hC hw1 24 ec hsm tc mv wt ba st ki ow su dl da ch di hD hW hV hH hK hE hR h24 (by omega) (fun r u' v' hU ht hY => K (nI r) u' v' hU ht (fun postY hp => hY0 _ (Exists.intro 25 (hY postY hp)))))
theorem sm_settle {s w : Prop} {post : Int32 → SX → Prop} (hT : T ≤ 2000) (hN : rl_N nc so fi sp) (hM : rl_M mk md) (hL : rl_L nc lc ni gt src ip fl lg ln) (hI : rl_I lc ni gt src lw iN iW) (hTb : rl_T nc lc gt src lw so fi sp mk (nI T) it) (hS : rl_S lc gt src lw it sc) (hD : rl_D A nc dc pr pe am xr xf st yr yf) (hW : rl_W dc pr st wt) (hC : rl_C dc xr xf wa) (hV : rl_V dc mv tc (dl_c st pr am ba xr xf it)) (hH : rl_H dc st am hsm) (hK : rl_K dc dp ec st) (hE : rl_E A T ec ow su da) (hR : rl_R (en_F ki ow su ec) ch di) (hs0 : (s → ∀ d, d < dc → ¬ dl_c st pr am ba xr xf it d)) (hw0 : (w → ∀ k, k < nc → nw k = it k))
    (K : ∀ (r : Int32) (u' : SX) (v' : SY), rl_U True True u' v' → (∀ postY : Int32 → SY → Prop, postY r v' → wpY_settle postY ((nI A), (nI T), (nI nc), (nI dc), (nI dp), (nI ec), ba, md, so, fi, sp, ip, iN, iW, nw, pr, pe, am, yr, yf, st, ki, ow, su, dl, da)) → post r u') : wpX_settle post ((nI A), (nI nc), (nI lc), (nI dc), (nI ec), (nI dp), hsm, mk, 0, tc, mv, (nI T), ws, wd, so, fi, sp, sc, ip, it, fl, wa, lg, lw, ln, pr, pe, am, xr, xf, st, ba, wt, ki, ow, su, dl, da, ch, di) :=
  sm_settle2 hT hN hM hL hI hTb hS hD hW hC hV hH hK hE hR hs0 hw0 (fun r u' v' hU _ hY => K r u' v' hU hY)
end SM
end
section
section RD
variable {A nc lc dc ec dp T : Nat} {hsm mk dy tc mv ws wd : Int32} {so fi sp sc ip it fl wa lg lw ln pr pe am xr xf st ba wt ki ow su dl da ch di md iN iW nw yr yf : Nat → Int32} {ni gt src : Nat → Nat}
def i_Rel (k : Nat) (u : SX) (v : SY) : Prop := rl_U True False u v
theorem i_up {k : Nat} {u : SX} {v : SY} (h : i_Rel k u v) : i_Rel (k + 4) u v := h
theorem rd_x0 {P Q : Prop} {x : Int32} {n : Nat} (h : x < 0 ∨ nI n ≤ x) (K : P) : (x < 0 → P) ∧ (¬ x < 0 → ((nI n ≤ x → P) ∧ (¬ nI n ≤ x → Q))) := by
  refine ⟨fun _ => K, fun h0 => ⟨fun _ => K, fun h1 => ?_⟩⟩
  rcases h with h | h
  · exact absurd h h0
  · exact absurd h h1
theorem rd_x1 {P Q : Prop} {j n : Nat} (hj : j < n) (hn : n < 2 ^ 31) (K : Q) : (nI j < 0 → P) ∧ (¬ nI j < 0 → ((nI n ≤ nI j → P) ∧ (¬ nI n ≤ nI j → Q))) :=
  br_f (nI_pos (by omega)) (br_f (nI_ge hj hn) K)
theorem rd_y0 {P Q : Prop} {x c : Int32} {n : Nat} (h : x < 0 ∨ nI n ≤ x) (K : P) : (x < 0 → P) ∧ (¬ x < 0 → ((nI n ≤ x → P) ∧ (¬ nI n ≤ x → ((x < c → Q) ∧ (¬ x < c → P))))) := rd_x0 h K
theorem rd_y1 {P Q : Prop} {j n : Nat} (c : Nat) (hj : j < n) (hn : n ≤ c) (hc : c < 2 ^ 31) (K : Q) : (nI j < 0 → P) ∧ (¬ nI j < 0 → ((nI n ≤ nI j → P) ∧ (¬ nI n ≤ nI j → ((nI j < nI c → Q) ∧ (¬ nI j < nI c → P))))) :=
  br_f (nI_pos (by omega)) (br_f (nI_ge hj (by omega)) (br_t (nI_lt (by omega) hc) K))
theorem rd_ix (x : Int32) {n : Nat} (hn : n < 2 ^ 31) : (x < 0 ∨ nI n ≤ x) ∨ ∃ j : Nat, j < n ∧ x = nI j := by
  rcases pk_ix x hn with h | h | h
  · exact Or.inl (Or.inl h)
  · exact Or.inl (Or.inr h)
  · exact Or.inr h
/-! the constructors -/
theorem rd_tr0 {F : Nat → Int} (h : ∀ m, F m = 0) : ∀ l n, tr_S F l n = 0 ∧ tr_M F l n = 0 := by
  intro l
  induction l with
  | zero => intro n; show F n = 0 ∧ min (F n) 0 = 0; rw [h n]; exact ⟨rfl, rfl⟩
  | succ l ih => intro n; rw [tr_Ss, tr_Ms, (ih _).1, (ih _).2, (ih _).1, (ih _).2]; exact ⟨rfl, rfl⟩
theorem rd_il {post : SX → Prop} (K : ∀ xr' xf' : Nat → Int32, (∀ j, j < 12 → xr' j = -1 ∧ xf' j = -1) → post ((nI A), (nI nc), (nI lc), (nI dc), (nI ec), (nI dp), hsm, mk, dy, tc, mv, (nI T), ws, wd, so, fi, sp, sc, ip, it, fl, wa, lg, lw, ln, pr, pe, am, xr', xf', st, ba, wt, ki, ow, su, dl, da, ch, di)) :
    ∀ (n k : Nat) (xr1 xf1 : Nat → Int32), k ≤ 12 → 12 < n + k → (∀ j, j < k → xr1 j = -1 ∧ xf1 j = -1) → wX_init_248 post (nI A) (nI nc) (nI lc) (nI dc) (nI ec) (nI dp) hsm mk dy tc mv (nI T) ws wd n (nI k) so fi sp sc ip it fl wa lg lw ln pr pe am xr1 xf1 st ba wt ki ow su dl da ch di := by
  intro n
  induction n with
  | zero => intro k xr1 xf1 h1 h2; exact absurd h1 (by omega)
  | succ n ih =>
    intro k xr1 xf1 hk hn hx
    by_cases q : k = 12
    · subst q
      exact br_t (nI_le (a := 12) (Nat.le_refl _) (by decide)) (K xr1 xf1 hx)
    · have c : (nI k).toNatClampNeg = k := nI_clamp (by omega)
      have ik : vp_in (nI k) 12 := vp_in_nI (by omega) (by omega)
      refine br_f (nI_ge (b := 12) (by omega) (by decide)) (And.intro ik (nm_r (e' := upd xr1 k (-1)) (by rw [c]) (And.intro ik (nm_r (e' := upd xf1 k (-1)) (by rw [c]) (nm_r (nI_1 k) (ih (k + 1) _ _ (by omega) (by omega) (fun j hj => ?_)))))))
      by_cases e : j = k
      · rw [e, pk_us, pk_us]; exact ⟨rfl, rfl⟩
      · rw [pk_un e, pk_un e]; exact hx j (by omega)
theorem rd_i0 {xr xf : Nat → Int32} (hA : A ≤ 6) (hx : ∀ j, j < 12 → xr j = -1 ∧ xf j = -1) : i_Rel 1 ((nI A), 0, 0, 0, 0, 0, 0, 0, 0, 0, 0, 0, 0, 0, (fun _ => 0), (fun _ => 0), (fun _ => 0), (fun _ => 0), (fun _ => 0), (fun _ => 0), (fun _ => 0), (fun _ => 0), (fun _ => 0), (fun _ => 0), (fun _ => 0), (fun _ => 0), (fun _ => 0), (fun _ => 0), xr, xf, (fun _ => 0), (fun _ => 0), (fun _ => 0), (fun _ => 0), (fun _ => 0), (fun _ => 0), (fun _ => 0), (fun _ => 0), (fun _ => 0), (fun _ => 0))
    ((nI A), 0, 0, 0, 0, 0, (fun _ => 0), (fun _ => 0), (fun _ => 0), (fun _ => 0), (fun _ => 0), (fun _ => 0), (fun _ => 0), (fun _ => 0), (fun _ => 0), (fun _ => 0), (fun _ => 0), (fun _ => 0), (fun _ => 0), (fun _ => 0), (fun _ => 0), (fun _ => 0), (fun _ => 0), (fun _ => 0), (fun _ => 0), (fun _ => 0)) := by
  refine rl_in (nc := 0) (lc := 0) (dc := 0) (ec := 0) (dp := 0) (T := 0) (ni := fun _ => 0) (gt := fun _ => 0) (src := fun _ => 0) (by omega) ⟨by omega, fun k hk => absurd hk (by omega)⟩ (fun s _ => ?_) ⟨fun g => ⟨rfl, Nat.zero_le _⟩, fun _ _ => rfl, by decide, ⟨by omega, fun e he => absurd he (by omega), fun e he => absurd he (by omega), fun k hk => absurd hk (by omega)⟩⟩ ⟨fun g j hj => absurd hj (Nat.not_lt_zero _), fun g t => rfl⟩ (fun k hk => absurd hk (by omega)) (fun g => rfl) ⟨by omega, hA, fun d hd => absurd hd (by omega), fun d _ h => hx d h⟩ (fun d hd => absurd hd (by omega)) (fun d hd => absurd hd (by omega)) ⟨fun d hd => absurd hd (by omega), fun d _ _ => b_0 d⟩ rfl ⟨Nat.le_refl _, by omega⟩ ⟨fun i hi => absurd hi (by omega), fun i j _ hj => absurd hj (by omega)⟩ (fun a ha l n h1 h2 h3 => ?_) (fun _ d hd => absurd hd (by omega)) (fun h => absurd h id)
  · rw [b_0]; rfl
  · have := rd_tr0 (F := en_F (fun _ => 0) (fun _ => 0) (fun _ => 0) 0 a) (fun m => if_neg (fun w => by omega)) l n
    rw [this.1, this.2]
    exact ⟨rfl, rfl⟩
theorem rd_i1 {post : SX → Prop} (K : ∀ xr' xf' : Nat → Int32, (∀ j, j < 12 → xr' j = -1 ∧ xf' j = -1) → post ((nI A), (nI nc), (nI lc), (nI dc), (nI ec), (nI dp), hsm, mk, dy, tc, mv, (nI T), ws, wd, so, fi, sp, sc, ip, it, fl, wa, lg, lw, ln, pr, pe, am, xr', xf', st, ba, wt, ki, ow, su, dl, da, ch, di)) : ∃ n : Nat, wX_init_248 post (nI A) (nI nc) (nI lc) (nI dc) (nI ec) (nI dp) hsm mk dy tc mv (nI T) ws wd n 0 so fi sp sc ip it fl wa lg lw ln pr pe am xr xf st ba wt ki ow su dl da ch di :=
  ⟨13, rd_il K 13 0 xr xf (by omega) (by omega) (fun j h => absurd h (by omega))⟩
theorem i_vc0 (k0 : Int32) : wpX_init (fun u => wpY_init (fun v => i_Rel 1 u v) k0) k0 := by
  by_cases h2 : 2 ≤ k0
  · by_cases h6 : k0 ≤ 6
    · have h0 : ¬ k0 < 0 := by
        rw [Int32.le_iff_toInt_le] at h2
        rw [Int32.lt_iff_toInt_lt]
        have e2 : (2 : Int32).toInt = 2 := by decide
        have e0 : (0 : Int32).toInt = 0 := by decide
        omega
      obtain ⟨j, hj, rfl⟩ := nI_of2 (n := 6) (by decide) h0 h6
      exact br_t h2 (br_t h6 (rd_i1 (A := j) (nc := 0) (lc := 0) (dc := 0) (ec := 0) (dp := 0) (T := 0) (fun xr' xf' hx => br_t h2 (br_t h6 (rd_i0 hj hx)))))
    · exact br_t h2 (br_f h6 (rd_i1 (A := 6) (nc := 0) (lc := 0) (dc := 0) (ec := 0) (dp := 0) (T := 0) (fun xr' xf' hx => br_t h2 (br_f h6 (rd_i0 (A := 6) (by omega) hx)))))
  · exact br_f h2 (br_t (by decide) (rd_i1 (A := 2) (nc := 0) (lc := 0) (dc := 0) (ec := 0) (dp := 0) (T := 0) (fun xr' xf' hx => br_f h2 (rd_i0 (A := 2) (by omega) hx))))
end RD
end
section
section RE
variable {A nc lc dc ec dp T : Nat} {hsm mk dy tc mv ws wd : Int32} {so fi sp sc ip it fl wa lg lw ln pr pe am xr xf st ba wt ki ow su dl da ch di md iN iW nw yr yf : Nat → Int32} {ni gt src : Nat → Nat}
theorem rd_ec (hK : rl_K dc dp ec st) (hD : rl_D A nc dc pr pe am xr xf st yr yf) : ec ≤ 64 := by
  have h1 := hK.1
  have h2 := hK.2
  have h3 := hD.1
  omega
theorem i_vc_today {k : Nat} {u : SX} {v : SY} (I : i_Rel k u v) (hk : k + 4 ≤ 2049) : wpX_today (fun r => wpY_today (fun r' => r' = r ∧ i_Rel (k + 4) u v) v) u := by
  refine rl_el (P := fun u v => wpX_today (fun r => wpY_today (fun r' => r' = r ∧ i_Rel (k + 4) u v) v) u) ?_ I
  intro A nc lc dc ec dp T hsm mk tc mv ws wd so fi sp sc ip it fl wa lg lw ln pr pe am xr xf st ba wt ki ow su dl da ch di md iN iW nw yr yf ni gt src hT hN hM hL hI hTb hS hD hW hC hV hH hK hE hR hs0 hw0
  have R0 : i_Rel (k + 4) ((nI A), (nI nc), (nI lc), (nI dc), (nI ec), (nI dp), hsm, mk, 0, tc, mv, (nI T), ws, wd, so, fi, sp, sc, ip, it, fl, wa, lg, lw, ln, pr, pe, am, xr, xf, st, ba, wt, ki, ow, su, dl, da, ch, di) ((nI A), (nI T), (nI nc), (nI dc), (nI dp), (nI ec), ba, md, so, fi, sp, ip, iN, iW, nw, pr, pe, am, yr, yf, st, ki, ow, su, dl, da) := rl_in hT hN hM hL hI hTb hS hD hW hC hV hH hK hE hR hs0 hw0
  exact And.intro rfl R0
theorem i_vc_nodes {k : Nat} {u : SX} {v : SY} (I : i_Rel k u v) (hk : k + 4 ≤ 2049) : wpX_nodes (fun r => wpY_nodes (fun r' => r' = r ∧ i_Rel (k + 4) u v) v) u := by
  refine rl_el (P := fun u v => wpX_nodes (fun r => wpY_nodes (fun r' => r' = r ∧ i_Rel (k + 4) u v) v) u) ?_ I
  intro A nc lc dc ec dp T hsm mk tc mv ws wd so fi sp sc ip it fl wa lg lw ln pr pe am xr xf st ba wt ki ow su dl da ch di md iN iW nw yr yf ni gt src hT hN hM hL hI hTb hS hD hW hC hV hH hK hE hR hs0 hw0
  have R0 : i_Rel (k + 4) ((nI A), (nI nc), (nI lc), (nI dc), (nI ec), (nI dp), hsm, mk, 0, tc, mv, (nI T), ws, wd, so, fi, sp, sc, ip, it, fl, wa, lg, lw, ln, pr, pe, am, xr, xf, st, ba, wt, ki, ow, su, dl, da, ch, di) ((nI A), (nI T), (nI nc), (nI dc), (nI dp), (nI ec), ba, md, so, fi, sp, ip, iN, iW, nw, pr, pe, am, yr, yf, st, ki, ow, su, dl, da) := rl_in hT hN hM hL hI hTb hS hD hW hC hV hH hK hE hR hs0 hw0
  exact And.intro rfl R0
theorem i_vc_deals {k : Nat} {u : SX} {v : SY} (I : i_Rel k u v) (hk : k + 4 ≤ 2049) : wpX_deals (fun r => wpY_deals (fun r' => r' = r ∧ i_Rel (k + 4) u v) v) u := by
  refine rl_el (P := fun u v => wpX_deals (fun r => wpY_deals (fun r' => r' = r ∧ i_Rel (k + 4) u v) v) u) ?_ I
  intro A nc lc dc ec dp T hsm mk tc mv ws wd so fi sp sc ip it fl wa lg lw ln pr pe am xr xf st ba wt ki ow su dl da ch di md iN iW nw yr yf ni gt src hT hN hM hL hI hTb hS hD hW hC hV hH hK hE hR hs0 hw0
  have R0 : i_Rel (k + 4) ((nI A), (nI nc), (nI lc), (nI dc), (nI ec), (nI dp), hsm, mk, 0, tc, mv, (nI T), ws, wd, so, fi, sp, sc, ip, it, fl, wa, lg, lw, ln, pr, pe, am, xr, xf, st, ba, wt, ki, ow, su, dl, da, ch, di) ((nI A), (nI T), (nI nc), (nI dc), (nI dp), (nI ec), ba, md, so, fi, sp, ip, iN, iW, nw, pr, pe, am, yr, yf, st, ki, ow, su, dl, da) := rl_in hT hN hM hL hI hTb hS hD hW hC hV hH hK hE hR hs0 hw0
  exact And.intro rfl R0
theorem i_vc_entries {k : Nat} {u : SX} {v : SY} (I : i_Rel k u v) (hk : k + 4 ≤ 2049) : wpX_entries (fun r => wpY_entries (fun r' => r' = r ∧ i_Rel (k + 4) u v) v) u := by
  refine rl_el (P := fun u v => wpX_entries (fun r => wpY_entries (fun r' => r' = r ∧ i_Rel (k + 4) u v) v) u) ?_ I
  intro A nc lc dc ec dp T hsm mk tc mv ws wd so fi sp sc ip it fl wa lg lw ln pr pe am xr xf st ba wt ki ow su dl da ch di md iN iW nw yr yf ni gt src hT hN hM hL hI hTb hS hD hW hC hV hH hK hE hR hs0 hw0
  have R0 : i_Rel (k + 4) ((nI A), (nI nc), (nI lc), (nI dc), (nI ec), (nI dp), hsm, mk, 0, tc, mv, (nI T), ws, wd, so, fi, sp, sc, ip, it, fl, wa, lg, lw, ln, pr, pe, am, xr, xf, st, ba, wt, ki, ow, su, dl, da, ch, di) ((nI A), (nI T), (nI nc), (nI dc), (nI dp), (nI ec), ba, md, so, fi, sp, ip, iN, iW, nw, pr, pe, am, yr, yf, st, ki, ow, su, dl, da) := rl_in hT hN hM hL hI hTb hS hD hW hC hV hH hK hE hR hs0 hw0
  exact And.intro rfl R0
theorem i_vc_entryKind {k : Nat} {u : SX} {v : SY} (I : i_Rel k u v) (hk : k + 4 ≤ 2049) (v1 : Int32) : wpX_entryKind (fun r => wpY_entryKind (fun r' => r' = r ∧ i_Rel (k + 4) u v) v v1) u v1 := by
  refine rl_el (P := fun u v => wpX_entryKind (fun r => wpY_entryKind (fun r' => r' = r ∧ i_Rel (k + 4) u v) v v1) u v1) ?_ I
  intro A nc lc dc ec dp T hsm mk tc mv ws wd so fi sp sc ip it fl wa lg lw ln pr pe am xr xf st ba wt ki ow su dl da ch di md iN iW nw yr yf ni gt src hT hN hM hL hI hTb hS hD hW hC hV hH hK hE hR hs0 hw0
  have R0 : i_Rel (k + 4) ((nI A), (nI nc), (nI lc), (nI dc), (nI ec), (nI dp), hsm, mk, 0, tc, mv, (nI T), ws, wd, so, fi, sp, sc, ip, it, fl, wa, lg, lw, ln, pr, pe, am, xr, xf, st, ba, wt, ki, ow, su, dl, da, ch, di) ((nI A), (nI T), (nI nc), (nI dc), (nI dp), (nI ec), ba, md, so, fi, sp, ip, iN, iW, nw, pr, pe, am, yr, yf, st, ki, ow, su, dl, da) := rl_in hT hN hM hL hI hTb hS hD hW hC hV hH hK hE hR hs0 hw0
  have hb : ec ≤ 64 := rd_ec hK hD
  rcases rd_ix v1 (n := ec) (by omega) with h | ⟨j, hj, rfl⟩
  · exact rd_x0 h (br_t rfl (rd_y0 h (br_f en_10 ⟨rfl, R0⟩)))
  · have ij : vp_in (nI j) 64 := vp_in_nI (by omega) (by omega)
    exact rd_x1 hj (by omega) (br_f en_10 (And.intro ij (rd_y1 64 hj hb (by omega) (br_t rfl (And.intro ij ⟨rfl, R0⟩)))))
theorem i_vc_entryAccount {k : Nat} {u : SX} {v : SY} (I : i_Rel k u v) (hk : k + 4 ≤ 2049) (v1 : Int32) : wpX_entryAccount (fun r => wpY_entryAccount (fun r' => r' = r ∧ i_Rel (k + 4) u v) v v1) u v1 := by
  refine rl_el (P := fun u v => wpX_entryAccount (fun r => wpY_entryAccount (fun r' => r' = r ∧ i_Rel (k + 4) u v) v v1) u v1) ?_ I
  intro A nc lc dc ec dp T hsm mk tc mv ws wd so fi sp sc ip it fl wa lg lw ln pr pe am xr xf st ba wt ki ow su dl da ch di md iN iW nw yr yf ni gt src hT hN hM hL hI hTb hS hD hW hC hV hH hK hE hR hs0 hw0
  have R0 : i_Rel (k + 4) ((nI A), (nI nc), (nI lc), (nI dc), (nI ec), (nI dp), hsm, mk, 0, tc, mv, (nI T), ws, wd, so, fi, sp, sc, ip, it, fl, wa, lg, lw, ln, pr, pe, am, xr, xf, st, ba, wt, ki, ow, su, dl, da, ch, di) ((nI A), (nI T), (nI nc), (nI dc), (nI dp), (nI ec), ba, md, so, fi, sp, ip, iN, iW, nw, pr, pe, am, yr, yf, st, ki, ow, su, dl, da) := rl_in hT hN hM hL hI hTb hS hD hW hC hV hH hK hE hR hs0 hw0
  have hb : ec ≤ 64 := rd_ec hK hD
  rcases rd_ix v1 (n := ec) (by omega) with h | ⟨j, hj, rfl⟩
  · exact rd_x0 h (br_t rfl (rd_y0 h (br_f en_10 ⟨rfl, R0⟩)))
  · have ij : vp_in (nI j) 64 := vp_in_nI (by omega) (by omega)
    exact rd_x1 hj (by omega) (br_f en_10 (And.intro ij (rd_y1 64 hj hb (by omega) (br_t rfl (And.intro ij ⟨rfl, R0⟩)))))
theorem i_vc_entryAmount {k : Nat} {u : SX} {v : SY} (I : i_Rel k u v) (hk : k + 4 ≤ 2049) (v1 : Int32) : wpX_entryAmount (fun r => wpY_entryAmount (fun r' => r' = r ∧ i_Rel (k + 4) u v) v v1) u v1 := by
  refine rl_el (P := fun u v => wpX_entryAmount (fun r => wpY_entryAmount (fun r' => r' = r ∧ i_Rel (k + 4) u v) v v1) u v1) ?_ I
  intro A nc lc dc ec dp T hsm mk tc mv ws wd so fi sp sc ip it fl wa lg lw ln pr pe am xr xf st ba wt ki ow su dl da ch di md iN iW nw yr yf ni gt src hT hN hM hL hI hTb hS hD hW hC hV hH hK hE hR hs0 hw0
  have R0 : i_Rel (k + 4) ((nI A), (nI nc), (nI lc), (nI dc), (nI ec), (nI dp), hsm, mk, 0, tc, mv, (nI T), ws, wd, so, fi, sp, sc, ip, it, fl, wa, lg, lw, ln, pr, pe, am, xr, xf, st, ba, wt, ki, ow, su, dl, da, ch, di) ((nI A), (nI T), (nI nc), (nI dc), (nI dp), (nI ec), ba, md, so, fi, sp, ip, iN, iW, nw, pr, pe, am, yr, yf, st, ki, ow, su, dl, da) := rl_in hT hN hM hL hI hTb hS hD hW hC hV hH hK hE hR hs0 hw0
  have hb : ec ≤ 64 := rd_ec hK hD
  rcases rd_ix v1 (n := ec) (by omega) with h | ⟨j, hj, rfl⟩
  · exact rd_x0 h (br_t rfl (rd_y0 h (br_f en_10 ⟨rfl, R0⟩)))
  · have ij : vp_in (nI j) 64 := vp_in_nI (by omega) (by omega)
    exact rd_x1 hj (by omega) (br_f en_10 (And.intro ij (rd_y1 64 hj hb (by omega) (br_t rfl (And.intro ij ⟨rfl, R0⟩)))))
theorem i_vc_entryDeal {k : Nat} {u : SX} {v : SY} (I : i_Rel k u v) (hk : k + 4 ≤ 2049) (v1 : Int32) : wpX_entryDeal (fun r => wpY_entryDeal (fun r' => r' = r ∧ i_Rel (k + 4) u v) v v1) u v1 := by
  refine rl_el (P := fun u v => wpX_entryDeal (fun r => wpY_entryDeal (fun r' => r' = r ∧ i_Rel (k + 4) u v) v v1) u v1) ?_ I
  intro A nc lc dc ec dp T hsm mk tc mv ws wd so fi sp sc ip it fl wa lg lw ln pr pe am xr xf st ba wt ki ow su dl da ch di md iN iW nw yr yf ni gt src hT hN hM hL hI hTb hS hD hW hC hV hH hK hE hR hs0 hw0
  have R0 : i_Rel (k + 4) ((nI A), (nI nc), (nI lc), (nI dc), (nI ec), (nI dp), hsm, mk, 0, tc, mv, (nI T), ws, wd, so, fi, sp, sc, ip, it, fl, wa, lg, lw, ln, pr, pe, am, xr, xf, st, ba, wt, ki, ow, su, dl, da, ch, di) ((nI A), (nI T), (nI nc), (nI dc), (nI dp), (nI ec), ba, md, so, fi, sp, ip, iN, iW, nw, pr, pe, am, yr, yf, st, ki, ow, su, dl, da) := rl_in hT hN hM hL hI hTb hS hD hW hC hV hH hK hE hR hs0 hw0
  have hb : ec ≤ 64 := rd_ec hK hD
  rcases rd_ix v1 (n := ec) (by omega) with h | ⟨j, hj, rfl⟩
  · exact rd_x0 h (br_t rfl (rd_y0 h (br_f en_10 ⟨rfl, R0⟩)))
  · have ij : vp_in (nI j) 64 := vp_in_nI (by omega) (by omega)
    exact rd_x1 hj (by omega) (br_f en_10 (And.intro ij (rd_y1 64 hj hb (by omega) (br_t rfl (And.intro ij ⟨rfl, R0⟩)))))
theorem i_vc_entryDay {k : Nat} {u : SX} {v : SY} (I : i_Rel k u v) (hk : k + 4 ≤ 2049) (v1 : Int32) : wpX_entryDay (fun r => wpY_entryDay (fun r' => r' = r ∧ i_Rel (k + 4) u v) v v1) u v1 := by
  refine rl_el (P := fun u v => wpX_entryDay (fun r => wpY_entryDay (fun r' => r' = r ∧ i_Rel (k + 4) u v) v v1) u v1) ?_ I
  intro A nc lc dc ec dp T hsm mk tc mv ws wd so fi sp sc ip it fl wa lg lw ln pr pe am xr xf st ba wt ki ow su dl da ch di md iN iW nw yr yf ni gt src hT hN hM hL hI hTb hS hD hW hC hV hH hK hE hR hs0 hw0
  have R0 : i_Rel (k + 4) ((nI A), (nI nc), (nI lc), (nI dc), (nI ec), (nI dp), hsm, mk, 0, tc, mv, (nI T), ws, wd, so, fi, sp, sc, ip, it, fl, wa, lg, lw, ln, pr, pe, am, xr, xf, st, ba, wt, ki, ow, su, dl, da, ch, di) ((nI A), (nI T), (nI nc), (nI dc), (nI dp), (nI ec), ba, md, so, fi, sp, ip, iN, iW, nw, pr, pe, am, yr, yf, st, ki, ow, su, dl, da) := rl_in hT hN hM hL hI hTb hS hD hW hC hV hH hK hE hR hs0 hw0
  have hb : ec ≤ 64 := rd_ec hK hD
  rcases rd_ix v1 (n := ec) (by omega) with h | ⟨j, hj, rfl⟩
  · exact rd_x0 h (br_t rfl (rd_y0 h (br_f en_10 ⟨rfl, R0⟩)))
  · have ij : vp_in (nI j) 64 := vp_in_nI (by omega) (by omega)
    exact rd_x1 hj (by omega) (br_f en_10 (And.intro ij (rd_y1 64 hj hb (by omega) (br_t rfl (And.intro ij ⟨rfl, R0⟩)))))
theorem i_vc_state {k : Nat} {u : SX} {v : SY} (I : i_Rel k u v) (hk : k + 4 ≤ 2049) (v1 : Int32) : wpX_state (fun r => wpY_state (fun r' => r' = r ∧ i_Rel (k + 4) u v) v v1) u v1 := by
  refine rl_el (P := fun u v => wpX_state (fun r => wpY_state (fun r' => r' = r ∧ i_Rel (k + 4) u v) v v1) u v1) ?_ I
  intro A nc lc dc ec dp T hsm mk tc mv ws wd so fi sp sc ip it fl wa lg lw ln pr pe am xr xf st ba wt ki ow su dl da ch di md iN iW nw yr yf ni gt src hT hN hM hL hI hTb hS hD hW hC hV hH hK hE hR hs0 hw0
  have R0 : i_Rel (k + 4) ((nI A), (nI nc), (nI lc), (nI dc), (nI ec), (nI dp), hsm, mk, 0, tc, mv, (nI T), ws, wd, so, fi, sp, sc, ip, it, fl, wa, lg, lw, ln, pr, pe, am, xr, xf, st, ba, wt, ki, ow, su, dl, da, ch, di) ((nI A), (nI T), (nI nc), (nI dc), (nI dp), (nI ec), ba, md, so, fi, sp, ip, iN, iW, nw, pr, pe, am, yr, yf, st, ki, ow, su, dl, da) := rl_in hT hN hM hL hI hTb hS hD hW hC hV hH hK hE hR hs0 hw0
  have hb : dc ≤ 12 := hD.1
  rcases rd_ix v1 (n := dc) (by omega) with h | ⟨j, hj, rfl⟩
  · exact rd_x0 h (br_t rfl (rd_y0 h (br_f en_10 ⟨rfl, R0⟩)))
  · have ij : vp_in (nI j) 12 := vp_in_nI (by omega) (by omega)
    exact rd_x1 hj (by omega) (br_f en_10 (And.intro ij (rd_y1 12 hj hb (by omega) (br_t rfl (And.intro ij ⟨rfl, R0⟩)))))
theorem i_vc_balance {k : Nat} {u : SX} {v : SY} (I : i_Rel k u v) (hk : k + 4 ≤ 2049) (v1 : Int32) : wpX_balance (fun r => wpY_balance (fun r' => r' = r ∧ i_Rel (k + 4) u v) v v1) u v1 := by
  refine rl_el (P := fun u v => wpX_balance (fun r => wpY_balance (fun r' => r' = r ∧ i_Rel (k + 4) u v) v v1) u v1) ?_ I
  intro A nc lc dc ec dp T hsm mk tc mv ws wd so fi sp sc ip it fl wa lg lw ln pr pe am xr xf st ba wt ki ow su dl da ch di md iN iW nw yr yf ni gt src hT hN hM hL hI hTb hS hD hW hC hV hH hK hE hR hs0 hw0
  have R0 : i_Rel (k + 4) ((nI A), (nI nc), (nI lc), (nI dc), (nI ec), (nI dp), hsm, mk, 0, tc, mv, (nI T), ws, wd, so, fi, sp, sc, ip, it, fl, wa, lg, lw, ln, pr, pe, am, xr, xf, st, ba, wt, ki, ow, su, dl, da, ch, di) ((nI A), (nI T), (nI nc), (nI dc), (nI dp), (nI ec), ba, md, so, fi, sp, ip, iN, iW, nw, pr, pe, am, yr, yf, st, ki, ow, su, dl, da) := rl_in hT hN hM hL hI hTb hS hD hW hC hV hH hK hE hR hs0 hw0
  have hb : A ≤ 6 := hD.2.1
  rcases rd_ix v1 (n := A) (by omega) with h | ⟨j, hj, rfl⟩
  · exact rd_x0 h (br_t rfl (rd_y0 h (br_f en_10 ⟨rfl, R0⟩)))
  · have ij : vp_in (nI j) 6 := vp_in_nI (by omega) (by omega)
    exact rd_x1 hj (by omega) (br_f en_10 (And.intro ij (rd_y1 6 hj hb (by omega) (br_t rfl (And.intro ij ⟨rfl, R0⟩)))))
theorem i_vc_truth {k : Nat} {u : SX} {v : SY} (I : i_Rel k u v) (hk : k + 4 ≤ 2049) (v1 : Int32) : wpX_truth (fun r => wpY_truth (fun r' v' => r' = r ∧ i_Rel (k + 4) u v') v v1) u v1 := by
  refine rl_el (P := fun u v => wpX_truth (fun r => wpY_truth (fun r' v' => r' = r ∧ i_Rel (k + 4) u v') v v1) u v1) ?_ I
  intro A nc lc dc ec dp T hsm mk tc mv ws wd so fi sp sc ip it fl wa lg lw ln pr pe am xr xf st ba wt ki ow su dl da ch di md iN iW nw yr yf ni gt src hT hN hM hL hI hTb hS hD hW hC hV hH hK hE hR hs0 hw0
  have R0 : i_Rel (k + 4) ((nI A), (nI nc), (nI lc), (nI dc), (nI ec), (nI dp), hsm, mk, 0, tc, mv, (nI T), ws, wd, so, fi, sp, sc, ip, it, fl, wa, lg, lw, ln, pr, pe, am, xr, xf, st, ba, wt, ki, ow, su, dl, da, ch, di) ((nI A), (nI T), (nI nc), (nI dc), (nI dp), (nI ec), ba, md, so, fi, sp, ip, iN, iW, nw, pr, pe, am, yr, yf, st, ki, ow, su, dl, da) := rl_in hT hN hM hL hI hTb hS hD hW hC hV hH hK hE hR hs0 hw0
  have hb : nc ≤ 24 := hN.1
  have hG := hL.2.2.2
  rcases rd_ix v1 (n := nc) (by omega) with h | ⟨j, hj, rfl⟩
  · exact rd_x0 h (br_t rfl (rd_y0 h (br_f en_10 ⟨rfl, R0⟩)))
  · have ij : vp_in (nI j) 24 := vp_in_nI (by omega) (by omega)
    have cj : (nI j).toNatClampNeg = j := nI_clamp (by omega)
    obtain ⟨nw1, t1, hY0⟩ := yn_work (A := A) (T := T) (dc := dc) (dp := dp) (ec := ec) (ba := ba) (pr := pr) (pe := pe) (am := am) (yr := yr) (yf := yf) (st := st) (ki := ki) (ow := ow) (su := su) (dl := dl) (da := da) (nw := nw) (day := T) (by omega) hN hM hL.1 hI (fun e he => (hG.2.1 e he).2.1)
    have hw1 := nh_uq (fun e he => (hG.2.1 e he).2.1) t1 hTb
    have R1 : i_Rel (k + 4) ((nI A), (nI nc), (nI lc), (nI dc), (nI ec), (nI dp), hsm, mk, 0, tc, mv, (nI T), ws, wd, so, fi, sp, sc, ip, it, fl, wa, lg, lw, ln, pr, pe, am, xr, xf, st, ba, wt, ki, ow, su, dl, da, ch, di) ((nI A), (nI T), (nI nc), (nI dc), (nI dp), (nI ec), ba, md, so, fi, sp, ip, iN, iW, nw1, pr, pe, am, yr, yf, st, ki, ow, su, dl, da) := rl_in hT hN hM hL hI hTb hS hD hW hC hV hH hK hE hR hs0 (fun h => absurd h id)
    refine rd_x1 hj (by omega) (br_f en_10 (And.intro ij ?_))
    rw [cj]
    refine br_c (fun z => ?_) (fun z => ?_)
    · refine rd_y1 24 hj hb (by omega) (br_t rfl (hY0 _ (And.intro ij ?_)))
      rw [cj, hw1 j hj]
      exact br_t z ⟨rfl, R1⟩
    · refine rd_y1 24 hj hb (by omega) (br_t rfl (hY0 _ (And.intro ij ?_)))
      rw [cj, hw1 j hj]
      exact br_f z ⟨rfl, R1⟩
theorem i_vc_score {k : Nat} {u : SX} {v : SY} (I : i_Rel k u v) (hk : k + 4 ≤ 2049) (v1 : Int32) : wpX_score (fun r => wpY_score (fun r' v' => r' = r ∧ i_Rel (k + 4) u v') v v1) u v1 := by
  refine rl_el (P := fun u v => wpX_score (fun r => wpY_score (fun r' v' => r' = r ∧ i_Rel (k + 4) u v') v v1) u v1) ?_ I
  intro A nc lc dc ec dp T hsm mk tc mv ws wd so fi sp sc ip it fl wa lg lw ln pr pe am xr xf st ba wt ki ow su dl da ch di md iN iW nw yr yf ni gt src hT hN hM hL hI hTb hS hD hW hC hV hH hK hE hR hs0 hw0
  have R0 : i_Rel (k + 4) ((nI A), (nI nc), (nI lc), (nI dc), (nI ec), (nI dp), hsm, mk, 0, tc, mv, (nI T), ws, wd, so, fi, sp, sc, ip, it, fl, wa, lg, lw, ln, pr, pe, am, xr, xf, st, ba, wt, ki, ow, su, dl, da, ch, di) ((nI A), (nI T), (nI nc), (nI dc), (nI dp), (nI ec), ba, md, so, fi, sp, ip, iN, iW, nw, pr, pe, am, yr, yf, st, ki, ow, su, dl, da) := rl_in hT hN hM hL hI hTb hS hD hW hC hV hH hK hE hR hs0 hw0
  have hb : nc ≤ 24 := hN.1
  have hG := hL.2.2.2
  rcases rd_ix v1 (n := nc) (by omega) with h | ⟨j, hj, rfl⟩
  · exact rd_x0 h (br_t rfl (rd_y0 h (br_f en_10 ⟨rfl, R0⟩)))
  · have ij : vp_in (nI j) 24 := vp_in_nI (by omega) (by omega)
    have cj : (nI j).toNatClampNeg = j := nI_clamp (by omega)
    refine rd_x1 hj (by omega) (And.intro ij ?_)
    rw [cj]
    by_cases h3 : so j = 3
    · obtain ⟨nw1, t1, hY0⟩ := yn_work (A := A) (T := T) (dc := dc) (dp := dp) (ec := ec) (ba := ba) (pr := pr) (pe := pe) (am := am) (yr := yr) (yf := yf) (st := st) (ki := ki) (ow := ow) (su := su) (dl := dl) (da := da) (nw := nw) (day := T) (by omega) hN hM hL.1 hI (fun e he => (hG.2.1 e he).2.1)
      have hw1 := nh_uq (fun e he => (hG.2.1 e he).2.1) t1 hTb
      have R1 : i_Rel (k + 4) ((nI A), (nI nc), (nI lc), (nI dc), (nI ec), (nI dp), hsm, mk, 0, tc, mv, (nI T), ws, wd, so, fi, sp, sc, ip, it, fl, wa, lg, lw, ln, pr, pe, am, xr, xf, st, ba, wt, ki, ow, su, dl, da, ch, di) ((nI A), (nI T), (nI nc), (nI dc), (nI dp), (nI ec), ba, md, so, fi, sp, ip, iN, iW, nw1, pr, pe, am, yr, yf, st, ki, ow, su, dl, da) := rl_in hT hN hM hL hI hTb hS hD hW hC hV hH hK hE hR hs0 (fun h => absurd h id)
      refine br_t h3 (br_f en_10 (And.intro ij ?_))
      refine rd_y1 24 hj hb (by omega) (br_t rfl (And.intro ij ?_))
      rw [cj]
      refine br_t h3 (hY0 _ (yn_score (by omega) hL.1 hI ⟨?_, R1⟩))
      rw [hS j]
      refine nh_x_cg (fun e he hg => ?_)
      have := hG.2.1 e he
      rw [hw1 (src e) (by omega)]
    · refine br_f h3 (br_t rfl (rd_y1 24 hj hb (by omega) (br_t rfl (And.intro ij ?_))))
      rw [cj]
      exact br_f h3 ⟨rfl, R0⟩
theorem rd_hl {post : Int32 → Prop} (h12 : dc ≤ 12) (K : post (es_i (fun d => if st d = 2 then am d else 0) dc)) : ∀ (n j : Nat), j ≤ dc → dc < n + j → wY_held_4 post (nI A) (nI T) (nI nc) (nI dc) (nI dp) (nI ec) ba md so fi sp ip iN iW nw pr pe am yr yf st ki ow su dl da n (es_i (fun d => if st d = 2 then am d else 0) j) (nI j) := by
  intro n
  induction n with
  | zero => intro j h1 h2; exact absurd h1 (by omega)
  | succ n ih =>
    intro j hj hn
    by_cases q : j = dc
    · subst q
      exact br_t (nI_le (Nat.le_refl _) (by omega)) K
    · have ij : vp_in (nI j) 12 := vp_in_nI (by omega) (by omega)
      have cj : (nI j).toNatClampNeg = j := nI_clamp (by omega)
      have hst := es_i_s (fun d => if st d = 2 then am d else 0) j
      have ihj := ih (j + 1) (by omega) (by omega)
      refine br_f (nI_ge (by omega) (by omega)) (br_f (nI_ge (b := 12) (by omega) (by decide)) (And.intro ij ?_))
      rw [cj]
      refine br_c (fun z => And.intro ij (nm_r (e' := es_i (fun d => if st d = 2 then am d else 0) (j + 1)) ?_ (nm_r (nI_1 j) ihj))) (fun z => nm_r (nI_1 j) ?_)
      · rw [hst, if_pos z]
      · rw [hst, if_neg z, Int32.add_zero] at ihj
        exact ihj
theorem i_vc_held {k : Nat} {u : SX} {v : SY} (I : i_Rel k u v) (hk : k + 4 ≤ 2049) : wpX_held (fun r => wpY_held (fun r' => r' = r ∧ i_Rel (k + 4) u v) v) u := by
  refine rl_el (P := fun u v => wpX_held (fun r => wpY_held (fun r' => r' = r ∧ i_Rel (k + 4) u v) v) u) ?_ I
  intro A nc lc dc ec dp T hsm mk tc mv ws wd so fi sp sc ip it fl wa lg lw ln pr pe am xr xf st ba wt ki ow su dl da ch di md iN iW nw yr yf ni gt src hT hN hM hL hI hTb hS hD hW hC hV hH hK hE hR hs0 hw0
  have R0 : i_Rel (k + 4) ((nI A), (nI nc), (nI lc), (nI dc), (nI ec), (nI dp), hsm, mk, 0, tc, mv, (nI T), ws, wd, so, fi, sp, sc, ip, it, fl, wa, lg, lw, ln, pr, pe, am, xr, xf, st, ba, wt, ki, ow, su, dl, da, ch, di) ((nI A), (nI T), (nI nc), (nI dc), (nI dp), (nI ec), ba, md, so, fi, sp, ip, iN, iW, nw, pr, pe, am, yr, yf, st, ki, ow, su, dl, da) := rl_in hT hN hM hL hI hTb hS hD hW hC hV hH hK hE hR hs0 hw0
  exact Exists.intro (dc + 1) (rd_hl hD.1 ⟨hH.symm, R0⟩ (dc + 1) 0 (by omega) (by omega))
theorem i_vc_balanceOn {k : Nat} {u : SX} {v : SY} (I : i_Rel k u v) (hk : k + 4 ≤ 2049) (v1 : Int32) (v2 : Int32) : wpX_balanceOn (fun r u' => wpY_balanceOn (fun r' => r' = r ∧ i_Rel (k + 4) u' v) v v1 v2) u v1 v2 := by
  refine rl_el (P := fun u v => wpX_balanceOn (fun r u' => wpY_balanceOn (fun r' => r' = r ∧ i_Rel (k + 4) u' v) v v1 v2) u v1 v2) ?_ I
  intro A nc lc dc ec dp T hsm mk tc mv ws wd so fi sp sc ip it fl wa lg lw ln pr pe am xr xf st ba wt ki ow su dl da ch di md iN iW nw yr yf ni gt src hT hN hM hL hI hTb hS hD hW hC hV hH hK hE hR hs0 hw0
  have R0 : i_Rel (k + 4) ((nI A), (nI nc), (nI lc), (nI dc), (nI ec), (nI dp), hsm, mk, 0, tc, mv, (nI T), ws, wd, so, fi, sp, sc, ip, it, fl, wa, lg, lw, ln, pr, pe, am, xr, xf, st, ba, wt, ki, ow, su, dl, da, ch, di) ((nI A), (nI T), (nI nc), (nI dc), (nI dp), (nI ec), ba, md, so, fi, sp, ip, iN, iW, nw, pr, pe, am, yr, yf, st, ki, ow, su, dl, da) := rl_in hT hN hM hL hI hTb hS hD hW hC hV hH hK hE hR hs0 hw0
  have hA := hD.2.1
  have hec := rd_ec hK hD
  have hE1 : ∀ i, i < ec → ∃ q, q ≤ 1000 ∧ su i = nI q := fun i hi => (hE.1 i hi).2.1
  rcases rd_ix v1 (n := A) (by omega) with h | ⟨a, ha, rfl⟩
  · exact rd_x0 h (br_t rfl (rd_y0 h (br_f en_10 ⟨rfl, R0⟩)))
  · refine rd_x1 ha (by omega) (br_f en_10 (Exists.intro 9 (pa_bs hec hE.2 (fun lo h0 h1 h2 => ?_) 9 0 0 ec (by omega) (by omega) (by omega) (by omega) (by show ec - 0 < 256; omega) (fun i h => absurd h (by omega)) (fun i h h' => absurd h (by omega)))))
    refine wk_walk (a := a) (i := 0) (by omega) (by omega) (by omega) (en_bd hE1 a) hR (fun ws' wd' e1 e2 => ?_)
    have R1 : i_Rel (k + 4) ((nI A), (nI nc), (nI lc), (nI dc), (nI ec), (nI dp), hsm, mk, 0, tc, mv, (nI T), ws', wd', so, fi, sp, sc, ip, it, fl, wa, lg, lw, ln, pr, pe, am, xr, xf, st, ba, wt, ki, ow, su, dl, da, ch, di) ((nI A), (nI T), (nI nc), (nI dc), (nI dp), (nI ec), ba, md, so, fi, sp, ip, iN, iW, nw, pr, pe, am, yr, yf, st, ki, ow, su, dl, da) := rl_in hT hN hM hL hI hTb hS hD hW hC hV hH hK hE hR hs0 hw0
    refine rd_y1 6 ha hA (by omega) (br_t rfl (Exists.intro (ec + 1) (pa_bl (lo := lo) h0 hec hE1 h1 h2 (fun r hr => ⟨?_, R1⟩) (ec + 1) 0 0 (by omega) (by omega) ?_)))
    · rw [Nat.zero_min, show 64 + 0 = 64 from rfl, ew_64]; rfl
    · rw [show 64 + 0 = 64 from rfl, ew_64] at e1
      exact Int32.toInt_inj.mp (by rw [hr, e1]; omega)
theorem i_vc_lowest {k : Nat} {u : SX} {v : SY} (I : i_Rel k u v) (hk : k + 4 ≤ 2049) (v1 : Int32) (v2 : Int32) (v3 : Int32) : wpX_lowest (fun r u' => wpY_lowest (fun r' => r' = r ∧ i_Rel (k + 4) u' v) v v1 v2 v3) u v1 v2 v3 := by
  refine rl_el (P := fun u v => wpX_lowest (fun r u' => wpY_lowest (fun r' => r' = r ∧ i_Rel (k + 4) u' v) v v1 v2 v3) u v1 v2 v3) ?_ I
  intro A nc lc dc ec dp T hsm mk tc mv ws wd so fi sp sc ip it fl wa lg lw ln pr pe am xr xf st ba wt ki ow su dl da ch di md iN iW nw yr yf ni gt src hT hN hM hL hI hTb hS hD hW hC hV hH hK hE hR hs0 hw0
  have R0 : i_Rel (k + 4) ((nI A), (nI nc), (nI lc), (nI dc), (nI ec), (nI dp), hsm, mk, 0, tc, mv, (nI T), ws, wd, so, fi, sp, sc, ip, it, fl, wa, lg, lw, ln, pr, pe, am, xr, xf, st, ba, wt, ki, ow, su, dl, da, ch, di) ((nI A), (nI T), (nI nc), (nI dc), (nI dp), (nI ec), ba, md, so, fi, sp, ip, iN, iW, nw, pr, pe, am, yr, yf, st, ki, ow, su, dl, da) := rl_in hT hN hM hL hI hTb hS hD hW hC hV hH hK hE hR hs0 hw0
  have hA := hD.2.1
  have hec := rd_ec hK hD
  have hE1 : ∀ i, i < ec → ∃ q, q ≤ 1000 ∧ su i = nI q := fun i hi => (hE.1 i hi).2.1
  rcases rd_ix v1 (n := A) (by omega) with h | ⟨a, ha, rfl⟩
  · exact rd_x0 h (br_t rfl (rd_y0 h (br_f en_10 ⟨rfl, R0⟩)))
  · refine rd_x1 ha (by omega) (br_f en_10 ?_)
    by_cases h0 : v2 < 0
    · exact br_t h0 (rd_y1 6 ha hA (by omega) (br_t rfl (br_t h0 ⟨rfl, R0⟩)))
    · by_cases h1 : v3 < v2
      · exact br_f h0 (br_t h1 (rd_y1 6 ha hA (by omega) (br_t rfl (br_f h0 (br_t h1 ⟨rfl, R0⟩)))))
      · by_cases h2 : v3 ≤ nI ec
        · obtain ⟨i, hi, rfl⟩ := nI_of h0
          have h3 : ¬ v3 < 0 := by
            intro w
            apply h1
            refine Int32.lt_of_lt_of_le w ?_
            exact nI_pos' hi
          obtain ⟨j, hj, rfl⟩ := nI_of h3
          rw [nI_ltI hj hi] at h1
          rw [nI_leI hj (by omega)] at h2
          have g1 : ¬ nI j < nI i := nI_nlt (by omega) (by omega)
          have g2 : nI j ≤ nI ec := nI_le h2 (by omega)
          refine br_f h0 (br_f g1 (br_t g2 ?_))
          refine wk_walk (a := a) (i := 0) (by omega) (by omega) (by omega) (en_bd hE1 a) hR (fun ws' wd' e1 e2 => ?_)
          refine wk_walk (a := a) (i := i) (by omega) (by omega) (by omega) (en_bd hE1 a) hR (fun ws2 wd2 e3 e4 => ?_)
          have R1 : i_Rel (k + 4) ((nI A), (nI nc), (nI lc), (nI dc), (nI ec), (nI dp), hsm, mk, 0, tc, mv, (nI T), ws2, wd2, so, fi, sp, sc, ip, it, fl, wa, lg, lw, ln, pr, pe, am, xr, xf, st, ba, wt, ki, ow, su, dl, da, ch, di) ((nI A), (nI T), (nI nc), (nI dc), (nI dp), (nI ec), ba, md, so, fi, sp, ip, iN, iW, nw, pr, pe, am, yr, yf, st, ki, ow, su, dl, da) := rl_in hT hN hM hL hI hTb hS hD hW hC hV hH hK hE hR hs0 hw0
          rw [show 64 + 0 = 64 from rfl, ew_64] at e1
          have b1 := ew_bd (en_bd (ki := ki) (ow := ow) hE1 a) 64 i
          have b2 := ew_bd (en_bd (ki := ki) (ow := ow) hE1 a) (64 + i) (j - i)
          rw [ew_64] at b1
          have es := tr_add e1 e4 (by omega) (by omega)
          refine rd_y1 6 ha hA (by omega) (br_t rfl (br_f h0 (br_f g1 (br_t g2 (pa_after (by omega) hec hE1 (fun r0 hr0 => Exists.intro (j + 2) (pa_ll (i := i) (j := j) (by omega) h2 hec hE1 (fun r hr => ⟨?_, R1⟩) (j + 2) i r0 (Nat.le_refl _) (by omega) (by omega) ?_)))))))
          · rw [hr0, show i - 1 - i = 0 by omega]
            rfl
          · refine Int32.toInt_inj.mp ?_
            rw [hr]
            refine Eq.trans ?_ es.symm
            omega
        · exact br_f h0 (br_f h1 (br_f h2 (rd_y1 6 ha hA (by omega) (br_t rfl (br_f h0 (br_f h1 (br_f h2 ⟨rfl, R0⟩)))))))
end RE
end
section
section NW
variable {A nc lc dc ec dp T : Nat} {hsm mk dy tc mv ws wd : Int32} {so fi sp sc ip it fl wa lg lw ln pr pe am xr xf st ba wt ki ow su dl da ch di md iN iW nw yr yf : Nat → Int32} {ni gt src : Nat → Nat}
theorem nn_x {post : Int32 → SX → Prop} {kd p1 p2 : Int32} (hnc : nc < 24) (hp : kd = 2 → ¬ p1 ≤ 0)
    (K : ∀ r : Int32, r = nh_v (upd so nc kd) (upd fi nc p1) (upd sp nc p2) mk (nI T) (sc nc) nc → post (nI nc) ((nI A), (nI (nc + 1)), (nI lc), (nI dc), (nI ec), (nI dp), hsm, mk, dy, tc, mv, (nI T), ws, wd, (upd so nc kd), (upd fi nc p1), (upd sp nc p2), sc, ip, (upd it nc r), (upd fl nc (-1)), wa, lg, lw, ln, pr, pe, am, xr, xf, st, ba, wt, ki, ow, su, dl, da, ch, di)) : wpX_newNode post ((nI A), (nI nc), (nI lc), (nI dc), (nI ec), (nI dp), hsm, mk, dy, tc, mv, (nI T), ws, wd, so, fi, sp, sc, ip, it, fl, wa, lg, lw, ln, pr, pe, am, xr, xf, st, ba, wt, ki, ow, su, dl, da, ch, di) kd p1 p2 := by
  have c : (nI nc).toNatClampNeg = nc := nI_clamp (by omega)
  have i : vp_in (nI nc) 24 := vp_in_nI hnc (by omega)
  unfold wpX_newNode
  dsimp only
  rw [c]
  refine ⟨i, nm_e ⟨i, nm_e ⟨i, nm_e ⟨i, nm_e (nm_r (nI_1 nc) (xn_holds (nc := nc + 1) hnc (fun h => ?_) ⟨i, nm_r (e' := upd it nc (nh_v (upd so nc kd) (upd fi nc p1) (upd sp nc p2) mk (nI T) (sc nc) nc)) ?_ (K _ rfl)⟩))⟩⟩⟩⟩
  · rw [pk_us] at h ⊢
    exact hp h
  · rw [en_b (nh_v01 _ _ _ _ _ _ _)]
theorem nn_y {post : Int32 → SY → Prop} {kd p1 p2 : Int32} (hnc : nc < 24)
    (K : post (nI nc) ((nI A), (nI T), (nI (nc + 1)), (nI dc), (nI dp), (nI ec), ba, md, (upd so nc kd), (upd fi nc p1), (upd sp nc p2), (upd ip nc 0), iN, iW, nw, pr, pe, am, yr, yf, st, ki, ow, su, dl, da)) : wpY_newNode post ((nI A), (nI T), (nI nc), (nI dc), (nI dp), (nI ec), ba, md, so, fi, sp, ip, iN, iW, nw, pr, pe, am, yr, yf, st, ki, ow, su, dl, da) kd p1 p2 := by
  have c : (nI nc).toNatClampNeg = nc := nI_clamp (by omega)
  have i : vp_in (nI nc) 24 := vp_in_nI hnc (by omega)
  unfold wpY_newNode
  dsimp only
  rw [c]
  exact br_t (nI_lt (b := 24) hnc (by decide)) ⟨i, nm_e ⟨i, nm_e ⟨i, nm_e ⟨i, nm_e (nm_r (nI_1 nc) K)⟩⟩⟩⟩
theorem nn_v {a b c t s : Int32} {j : Nat} (h : j ≠ nc) : nh_v (upd so nc a) (upd fi nc b) (upd sp nc c) mk t s j = nh_v so fi sp mk t s j := by
  unfold nh_v
  rw [pk_un h, pk_un h, pk_un h]
theorem nn_rel {s w : Prop} {kd p1 p2 r : Int32} (hT : T ≤ 2000) (hN : rl_N nc so fi sp) (hM : rl_M mk md) (hL : rl_L nc lc ni gt src ip fl lg ln) (hI : rl_I lc ni gt src lw iN iW) (hTb : rl_T nc lc gt src lw so fi sp mk (nI T) it) (hS : rl_S lc gt src lw it sc) (hD : rl_D A nc dc pr pe am xr xf st yr yf) (hW : rl_W dc pr st wt) (hC : rl_C dc xr xf wa) (hV : rl_V dc mv tc (dl_c st pr am ba xr xf it)) (hH : rl_H dc st am hsm) (hK : rl_K dc dp ec st) (hE : rl_E A T ec ow su da) (hR : rl_R (en_F ki ow su ec) ch di) (hs0 : (s → ∀ d, d < dc → ¬ dl_c st pr am ba xr xf it d)) (hw0 : (w → ∀ k, k < nc → nw k = it k)) (hnc : nc < 24)
    (hkd : (kd = 0 ∧ ∃ s, s < 8 ∧ p1 = nI s) ∨ (kd = 1 ∧ ∃ d, d ≤ 1000 ∧ p1 = nI d) ∨ (kd = 2 ∧ ∃ p o, 2 ≤ p ∧ p ≤ 20 ∧ 1 ≤ o ∧ o < p ∧ p1 = nI p ∧ p2 = nI o) ∨ kd = 3)
    (hr : r = nh_v (upd so nc kd) (upd fi nc p1) (upd sp nc p2) mk (nI T) (sc nc) nc) :
    rl_U s False ((nI A), (nI (nc + 1)), (nI lc), (nI dc), (nI ec), (nI dp), hsm, mk, 0, tc, mv, (nI T), ws, wd, (upd so nc kd), (upd fi nc p1), (upd sp nc p2), sc, ip, (upd it nc r), (upd fl nc (-1)), wa, lg, lw, ln, pr, pe, am, xr, xf, st, ba, wt, ki, ow, su, dl, da, ch, di) ((nI A), (nI T), (nI (nc + 1)), (nI dc), (nI dp), (nI ec), ba, md, (upd so nc kd), (upd fi nc p1), (upd sp nc p2), (upd ip nc 0), iN, iW, nw, pr, pe, am, yr, yf, st, ki, ow, su, dl, da) := by
  obtain ⟨hL1, hL2, hL3, hL4, hL5, hL6, hL7⟩ := hL
  have hip : upd ip nc 0 = ip := by
    funext j
    by_cases q : j = nc
    · rw [q, pk_us, (hL1 nc).1, hL2 nc (Nat.le_refl _)]
      rfl
    · rw [pk_un q]
  have hx : ∀ g, nh_x gt lw (fun e => upd it nc r (src e)) g lc = nh_x gt lw (fun e => it (src e)) g lc := by
    intro g
    refine nh_x_cg (fun e he _ => ?_)
    have := hL5 e he
    rw [pk_un (show src e ≠ nc by omega)]
  have hit : ∀ j, j < nc → upd it nc r j = it j := fun j hj => pk_un (by omega)
  rw [hip]
  refine rl_in (nc := nc + 1) hT ⟨by omega, fun j hj => ?_⟩ hM ⟨hL1, fun g hg => hL2 g (by omega), hL3, hL4, fun e he => ?_, hL6, fun j hj => ?_⟩ hI (fun j hj => ?_) (fun g => ?_) ⟨hD.1, hD.2.1, fun d hd => ?_, hD.2.2.2⟩ hW hC ⟨fun d hd hb => ?_, hV.2⟩ hH hK hE hR (fun h d hd => ?_) (fun h => absurd h id)
  · by_cases q : j = nc
    · rw [q, pk_us, pk_us, pk_us]; exact hkd
    · rw [pk_un q, pk_un q, pk_un q]; exact hN.2 j (by omega)
  · have := hL5 e he
    exact ⟨this.1, this.2.1, by omega⟩
  · by_cases q : j = nc
    · rw [q, pk_us]
      rcases el_a_c src nc lc with ⟨e1, _⟩ | ⟨e, he, hs, _, _⟩
      · exact e1.symm
      · have := hL5 e he
        omega
    · rw [pk_un q]; exact hL7 j (by omega)
  · rw [hx]
    by_cases q : j = nc
    · rw [q, pk_us, hr, hS nc]
    · rw [pk_un q, nn_v q]; exact hTb j (by omega)
  · rw [hx]; exact hS g
  · obtain ⟨h1, h2, h3, h4, h5, h6⟩ := hD.2.2.1 d hd
    refine ⟨h1, h2, h3, h4, h5, ?_⟩
    rcases h6 with h6 | ⟨r, f, hr, hf, er, ef⟩
    · exact Or.inl h6
    · exact Or.inr ⟨r, f, by omega, by omega, er, ef⟩
  · rw [hV.1 d hd hb]
    exact (dl_ci hD (by omega) hd hit).symm
  · exact fun w => hs0 h d hd ((dl_ci hD (by omega) hd hit).mp w)
theorem nn_24 (h : nc ≤ 24) (h24 : ¬ nI nc = 24) : nc < 24 := by
  rcases Nat.lt_or_ge nc 24 with w | w
  · exact w
  · have : nc = 24 := by omega
    rw [this] at h24
    exact absurd rfl h24
theorem i_vc_signer {k : Nat} {u : SX} {v : SY} (I : i_Rel k u v) (hk : k + 4 ≤ 2049) (v1 : Int32) : wpX_signer (fun r u' => wpY_signer (fun r' v' => r' = r ∧ i_Rel (k + 4) u' v') v v1) u v1 := by
  refine rl_el (P := fun u v => wpX_signer (fun r u' => wpY_signer (fun r' v' => r' = r ∧ i_Rel (k + 4) u' v') v v1) u v1) ?_ I
  intro A nc lc dc ec dp T hsm mk tc mv ws wd so fi sp sc ip it fl wa lg lw ln pr pe am xr xf st ba wt ki ow su dl da ch di md iN iW nw yr yf ni gt src hT hN hM hL hI hTb hS hD hW hC hV hH hK hE hR hs0 hw0
  have R0 : i_Rel (k + 4) ((nI A), (nI nc), (nI lc), (nI dc), (nI ec), (nI dp), hsm, mk, 0, tc, mv, (nI T), ws, wd, so, fi, sp, sc, ip, it, fl, wa, lg, lw, ln, pr, pe, am, xr, xf, st, ba, wt, ki, ow, su, dl, da, ch, di) ((nI A), (nI T), (nI nc), (nI dc), (nI dp), (nI ec), ba, md, so, fi, sp, ip, iN, iW, nw, pr, pe, am, yr, yf, st, ki, ow, su, dl, da) := rl_in hT hN hM hL hI hTb hS hD hW hC hV hH hK hE hR hs0 hw0
  by_cases h0 : v1 < 0
  · exact br_t h0 (br_t h0 ⟨rfl, R0⟩)
  · by_cases h7 : v1 ≤ 7
    · by_cases h24 : nI nc = 24
      · exact br_f h0 (br_t h7 (br_t h24 (br_f h0 (br_t h7 (br_t h24 ⟨rfl, R0⟩)))))
      · have hnc := nn_24 hN.1 h24
        have hkd : ((0 : Int32) = 0 ∧ ∃ s, s < 8 ∧ v1 = nI s) ∨ ((0 : Int32) = 1 ∧ ∃ d, d ≤ 1000 ∧ v1 = nI d) ∨ ((0 : Int32) = 2 ∧ ∃ p o, 2 ≤ p ∧ p ≤ 20 ∧ 1 ≤ o ∧ o < p ∧ v1 = nI p ∧ (0 : Int32) = nI o) ∨ (0 : Int32) = 3 := by
          obtain ⟨j, hj, e⟩ := nI_of2 (n := 7) (by decide) h0 h7
          exact Or.inl ⟨rfl, j, by omega, e⟩
        exact br_f h0 (br_t h7 (br_f h24 (nn_x hnc (fun z => absurd z (by decide)) (fun r hr => br_f h0 (br_t h7 (br_f h24 (nn_y hnc ⟨rfl, nn_rel hT hN hM hL hI hTb hS hD hW hC hV hH hK hE hR hs0 hw0 hnc hkd hr⟩)))))))
    · exact br_f h0 (br_f h7 (br_f h0 (br_f h7 ⟨rfl, R0⟩)))
theorem i_vc_after {k : Nat} {u : SX} {v : SY} (I : i_Rel k u v) (hk : k + 4 ≤ 2049) (v1 : Int32) : wpX_after (fun r u' => wpY_after (fun r' v' => r' = r ∧ i_Rel (k + 4) u' v') v v1) u v1 := by
  refine rl_el (P := fun u v => wpX_after (fun r u' => wpY_after (fun r' v' => r' = r ∧ i_Rel (k + 4) u' v') v v1) u v1) ?_ I
  intro A nc lc dc ec dp T hsm mk tc mv ws wd so fi sp sc ip it fl wa lg lw ln pr pe am xr xf st ba wt ki ow su dl da ch di md iN iW nw yr yf ni gt src hT hN hM hL hI hTb hS hD hW hC hV hH hK hE hR hs0 hw0
  have R0 : i_Rel (k + 4) ((nI A), (nI nc), (nI lc), (nI dc), (nI ec), (nI dp), hsm, mk, 0, tc, mv, (nI T), ws, wd, so, fi, sp, sc, ip, it, fl, wa, lg, lw, ln, pr, pe, am, xr, xf, st, ba, wt, ki, ow, su, dl, da, ch, di) ((nI A), (nI T), (nI nc), (nI dc), (nI dp), (nI ec), ba, md, so, fi, sp, ip, iN, iW, nw, pr, pe, am, yr, yf, st, ki, ow, su, dl, da) := rl_in hT hN hM hL hI hTb hS hD hW hC hV hH hK hE hR hs0 hw0
  by_cases h0 : v1 < 0
  · exact br_t h0 (br_t h0 ⟨rfl, R0⟩)
  · by_cases h7 : v1 ≤ 1000
    · by_cases h24 : nI nc = 24
      · exact br_f h0 (br_t h7 (br_t h24 (br_f h0 (br_t h7 (br_t h24 ⟨rfl, R0⟩)))))
      · have hnc := nn_24 hN.1 h24
        have hkd : ((1 : Int32) = 0 ∧ ∃ s, s < 8 ∧ v1 = nI s) ∨ ((1 : Int32) = 1 ∧ ∃ d, d ≤ 1000 ∧ v1 = nI d) ∨ ((1 : Int32) = 2 ∧ ∃ p o, 2 ≤ p ∧ p ≤ 20 ∧ 1 ≤ o ∧ o < p ∧ v1 = nI p ∧ (0 : Int32) = nI o) ∨ (1 : Int32) = 3 := by
          obtain ⟨j, hj, e⟩ := nI_of2 (n := 1000) (by decide) h0 h7
          exact Or.inr (Or.inl ⟨rfl, j, by omega, e⟩)
        exact br_f h0 (br_t h7 (br_f h24 (nn_x hnc (fun z => absurd z (by decide)) (fun r hr => br_f h0 (br_t h7 (br_f h24 (nn_y hnc ⟨rfl, nn_rel hT hN hM hL hI hTb hS hD hW hC hV hH hK hE hR hs0 hw0 hnc hkd hr⟩)))))))
    · exact br_f h0 (br_f h7 (br_f h0 (br_f h7 ⟨rfl, R0⟩)))
theorem i_vc_gate {k : Nat} {u : SX} {v : SY} (I : i_Rel k u v) (hk : k + 4 ≤ 2049) (v1 : Int32) : wpX_gate (fun r u' => wpY_gate (fun r' v' => r' = r ∧ i_Rel (k + 4) u' v') v v1) u v1 := by
  refine rl_el (P := fun u v => wpX_gate (fun r u' => wpY_gate (fun r' v' => r' = r ∧ i_Rel (k + 4) u' v') v v1) u v1) ?_ I
  intro A nc lc dc ec dp T hsm mk tc mv ws wd so fi sp sc ip it fl wa lg lw ln pr pe am xr xf st ba wt ki ow su dl da ch di md iN iW nw yr yf ni gt src hT hN hM hL hI hTb hS hD hW hC hV hH hK hE hR hs0 hw0
  have R0 : i_Rel (k + 4) ((nI A), (nI nc), (nI lc), (nI dc), (nI ec), (nI dp), hsm, mk, 0, tc, mv, (nI T), ws, wd, so, fi, sp, sc, ip, it, fl, wa, lg, lw, ln, pr, pe, am, xr, xf, st, ba, wt, ki, ow, su, dl, da, ch, di) ((nI A), (nI T), (nI nc), (nI dc), (nI dp), (nI ec), ba, md, so, fi, sp, ip, iN, iW, nw, pr, pe, am, yr, yf, st, ki, ow, su, dl, da) := rl_in hT hN hM hL hI hTb hS hD hW hC hV hH hK hE hR hs0 hw0
  by_cases h0 : v1 < (-20)
  · exact br_t h0 (br_t h0 ⟨rfl, R0⟩)
  · by_cases h7 : v1 ≤ 20
    · by_cases h24 : nI nc = 24
      · exact br_f h0 (br_t h7 (br_t h24 (br_f h0 (br_t h7 (br_t h24 ⟨rfl, R0⟩)))))
      · have hnc := nn_24 hN.1 h24
        have hkd : ((3 : Int32) = 0 ∧ ∃ s, s < 8 ∧ v1 = nI s) ∨ ((3 : Int32) = 1 ∧ ∃ d, d ≤ 1000 ∧ v1 = nI d) ∨ ((3 : Int32) = 2 ∧ ∃ p o, 2 ≤ p ∧ p ≤ 20 ∧ 1 ≤ o ∧ o < p ∧ v1 = nI p ∧ (0 : Int32) = nI o) ∨ (3 : Int32) = 3 := Or.inr (Or.inr (Or.inr rfl))
        exact br_f h0 (br_t h7 (br_f h24 (nn_x hnc (fun z => absurd z (by decide)) (fun r hr => br_f h0 (br_t h7 (br_f h24 (nn_y hnc ⟨rfl, nn_rel hT hN hM hL hI hTb hS hD hW hC hV hH hK hE hR hs0 hw0 hnc hkd hr⟩)))))))
    · exact br_f h0 (br_f h7 (br_f h0 (br_f h7 ⟨rfl, R0⟩)))
theorem i_vc_window {k : Nat} {u : SX} {v : SY} (I : i_Rel k u v) (hk : k + 4 ≤ 2049) (v1 : Int32) (v2 : Int32) : wpX_window (fun r u' => wpY_window (fun r' v' => r' = r ∧ i_Rel (k + 4) u' v') v v1 v2) u v1 v2 := by
  refine rl_el (P := fun u v => wpX_window (fun r u' => wpY_window (fun r' v' => r' = r ∧ i_Rel (k + 4) u' v') v v1 v2) u v1 v2) ?_ I
  intro A nc lc dc ec dp T hsm mk tc mv ws wd so fi sp sc ip it fl wa lg lw ln pr pe am xr xf st ba wt ki ow su dl da ch di md iN iW nw yr yf ni gt src hT hN hM hL hI hTb hS hD hW hC hV hH hK hE hR hs0 hw0
  have R0 : i_Rel (k + 4) ((nI A), (nI nc), (nI lc), (nI dc), (nI ec), (nI dp), hsm, mk, 0, tc, mv, (nI T), ws, wd, so, fi, sp, sc, ip, it, fl, wa, lg, lw, ln, pr, pe, am, xr, xf, st, ba, wt, ki, ow, su, dl, da, ch, di) ((nI A), (nI T), (nI nc), (nI dc), (nI dp), (nI ec), ba, md, so, fi, sp, ip, iN, iW, nw, pr, pe, am, yr, yf, st, ki, ow, su, dl, da) := rl_in hT hN hM hL hI hTb hS hD hW hC hV hH hK hE hR hs0 hw0
  by_cases h0 : v1 < 2
  · exact br_t h0 (br_t h0 ⟨rfl, R0⟩)
  · by_cases h7 : v1 ≤ 20
    · by_cases h1 : v2 < 1
      · exact br_f h0 (br_t h7 (br_t h1 (br_f h0 (br_t h7 (br_t h1 ⟨rfl, R0⟩)))))
      · have e2 : (2 : Int32).toInt = 2 := by decide
        have e1 : (1 : Int32).toInt = 1 := by decide
        have e0 : (0 : Int32).toInt = 0 := by decide
        have n0 : ¬ v1 < 0 := by rw [Int32.lt_iff_toInt_lt] at h0 ⊢; omega
        have n1 : ¬ v2 < 0 := by rw [Int32.lt_iff_toInt_lt] at h1 ⊢; omega
        obtain ⟨p, hp, rfl⟩ := nI_of2 (n := 20) (by decide) n0 h7
        obtain ⟨o, ho, rfl⟩ := nI_of n1
        have hp2 : 2 ≤ p := by
          rw [show (2 : Int32) = nI 2 from rfl, nI_ltI (by omega) (by omega)] at h0
          omega
        have ho1 : 1 ≤ o := by
          rw [show (1 : Int32) = nI 1 from rfl, nI_ltI (by omega) (by omega)] at h1
          omega
        have em : nI p - 1 = nI (p - 1) := by
          rw [show p = (p - 1) + 1 by omega]
          exact nI_pred _
        by_cases hop : o < p
        · have g1 : nI o < nI p := nI_lt hop (by omega)
          have g2 : nI o ≤ nI p - 1 := by rw [em]; exact nI_le (by omega) (by omega)
          by_cases h24 : nI nc = 24
          · exact br_f h0 (br_t h7 (br_f h1 (br_t g1 (br_t h24 (br_f h0 (br_t h7 (br_f h1 (br_t g2 (br_t h24 ⟨rfl, R0⟩)))))))))
          · have hnc := nn_24 hN.1 h24
            have hkd : ((2 : Int32) = 0 ∧ ∃ s, s < 8 ∧ nI p = nI s) ∨ ((2 : Int32) = 1 ∧ ∃ d, d ≤ 1000 ∧ nI p = nI d) ∨ ((2 : Int32) = 2 ∧ ∃ p' o', 2 ≤ p' ∧ p' ≤ 20 ∧ 1 ≤ o' ∧ o' < p' ∧ nI p = nI p' ∧ nI o = nI o') ∨ (2 : Int32) = 3 := Or.inr (Or.inr (Or.inl ⟨rfl, p, o, hp2, hp, ho1, hop, rfl, rfl⟩))
            exact br_f h0 (br_t h7 (br_f h1 (br_t g1 (br_f h24 (nn_x hnc (fun _ => nI_nle (by omega) (by omega)) (fun r hr => br_f h0 (br_t h7 (br_f h1 (br_t g2 (br_f h24 (nn_y hnc ⟨rfl, nn_rel hT hN hM hL hI hTb hS hD hW hC hV hH hK hE hR hs0 hw0 hnc hkd hr⟩)))))))))))
        · have g1 : ¬ nI o < nI p := nI_nlt (by omega) (by omega)
          have g2 : ¬ nI o ≤ nI p - 1 := by rw [em]; exact nI_ge (by omega) (by omega)
          exact br_f h0 (br_t h7 (br_f h1 (br_f g1 (br_f h0 (br_t h7 (br_f h1 (br_f g2 ⟨rfl, R0⟩)))))))
    · exact br_f h0 (br_f h7 (br_f h0 (br_f h7 ⟨rfl, R0⟩)))
end NW
end
section
section OF
variable {A nc lc dc ec dp T : Nat} {hsm mk dy tc mv ws wd : Int32} {so fi sp sc ip it fl wa lg lw ln pr pe am xr xf st ba wt ki ow su dl da ch di md iN iW nw yr yf : Nat → Int32} {ni gt src : Nat → Nat}
theorem of_cu {p q m n : Int32} {x y d : Nat} (hx : d ≠ x) : dl_c (upd st x n) (upd pr x p) (upd am x m) ba xr xf it d ↔ dl_c st pr am ba xr xf it d := by
  unfold dl_c
  rw [pk_un hx, pk_un hx, pk_un hx]
theorem of_rel {s w : Prop} {p q m : Nat} (hT : T ≤ 2000) (hN : rl_N nc so fi sp) (hM : rl_M mk md) (hL : rl_L nc lc ni gt src ip fl lg ln) (hI : rl_I lc ni gt src lw iN iW) (hTb : rl_T nc lc gt src lw so fi sp mk (nI T) it) (hS : rl_S lc gt src lw it sc) (hD : rl_D A nc dc pr pe am xr xf st yr yf) (hW : rl_W dc pr st wt) (hC : rl_C dc xr xf wa) (hV : rl_V dc mv tc (dl_c st pr am ba xr xf it)) (hH : rl_H dc st am hsm) (hK : rl_K dc dp ec st) (hE : rl_E A T ec ow su da) (hR : rl_R (en_F ki ow su ec) ch di) (hs0 : (s → ∀ d, d < dc → ¬ dl_c st pr am ba xr xf it d)) (hw0 : (w → ∀ k, k < nc → nw k = it k)) (hdc : dc < 12) (hp : p < A) (hq : q < A) (hm : m ≤ 1000) :
    rl_U s False ((nI A), (nI nc), (nI lc), (nI (dc + 1)), (nI ec), (nI dp), hsm, mk, 0, tc, mv, (nI T), ws, wd, so, fi, sp, sc, ip, it, fl, wa, lg, lw, ln, (upd pr dc (nI p)), (upd pe dc (nI q)), (upd am dc (nI m)), xr, xf, (upd st dc 0), ba, wt, ki, ow, su, dl, da, ch, di) ((nI A), (nI T), (nI nc), (nI (dc + 1)), (nI dp), (nI ec), ba, md, so, fi, sp, ip, iN, iW, nw, (upd pr dc (nI p)), (upd pe dc (nI q)), (upd am dc (nI m)), (upd yr dc (-1)), (upd yf dc (-1)), (upd st dc 0), ki, ow, su, dl, da) := by
  have hx := hD.2.2.2 dc (Nat.le_refl _) hdc
  have no : ¬ dl_c (upd st dc 0) (upd pr dc (nI p)) (upd am dc (nI m)) ba xr xf it dc := by
    unfold dl_c
    rw [pk_us]
    rintro (w | w)
    · exact absurd w.1 (by decide)
    · exact absurd w.1 (by decide)
  refine rl_in (dc := dc + 1) hT hN hM hL hI hTb hS ⟨by omega, hD.2.1, fun d hd => ?_, fun d h1 h2 => hD.2.2.2 d (by omega) h2⟩ (fun d hd h => ?_) (fun d hd => ?_) ⟨fun d hd hb => ?_, fun d h1 h2 => hV.2 d (by omega) h2⟩ ?_ ⟨?_, hK.2⟩ hE hR (fun h d hd => ?_) (fun h => absurd h id)
  · by_cases e : d = dc
    · rw [e, pk_us, pk_us, pk_us, pk_us, pk_us, pk_us, hx.1, hx.2]
      exact ⟨⟨p, hp, rfl⟩, ⟨q, hq, rfl⟩, ⟨m, hm, rfl⟩, rfl, rfl, Or.inl ⟨rfl, by decide, by decide⟩⟩
    · rw [pk_un e, pk_un e, pk_un e, pk_un e, pk_un e, pk_un e]
      exact hD.2.2.1 d (by omega)
  · by_cases e : d = dc
    · rw [e, pk_us] at h; exact absurd h (by decide)
    · rw [pk_un e] at h ⊢; exact hW d (by omega) h
  · by_cases e : d = dc
    · rw [e, hx.1, hx.2]
      exact ⟨fun r hr h => absurd h.symm (en_m1 (by omega)), fun r hr h => absurd h.symm (en_m1 (by omega))⟩
    · exact hC d (by omega)
  · by_cases e : d = dc
    · rw [e, hV.2 dc (Nat.le_refl _) (by omega)]
      exact ⟨fun z => absurd z (by decide), fun z => absurd z no⟩
    · rw [of_cu (q := 0) (y := 0) e]; exact hV.1 d (by omega) hb
  · unfold rl_H at hH ⊢
    rw [es_i_s, hH, pk_us, if_neg (by decide), Int32.add_zero]
    exact es_i_cg dc (fun i hi => by rw [pk_un (show i ≠ dc by omega), pk_un (show i ≠ dc by omega)])
  · rw [es_n_s, pk_us, show rl_pt 0 = 2 by decide, es_n_cg (g := fun d => rl_pt (st d)) dc (fun i hi => by rw [pk_un (show i ≠ dc by omega)])]
    have := hK.1
    omega
  · by_cases e : d = dc
    · rw [e]; exact no
    · rw [of_cu (q := 0) (y := 0) e]; exact hs0 h d (by omega)
theorem i_vc_offer {k : Nat} {u : SX} {v : SY} (I : i_Rel k u v) (hk : k + 4 ≤ 2049) (v1 : Int32) (v2 : Int32) (v3 : Int32) : wpX_offer (fun r u' => wpY_offer (fun r' v' => r' = r ∧ i_Rel (k + 4) u' v') v v1 v2 v3) u v1 v2 v3 := by
  refine rl_el (P := fun u v => wpX_offer (fun r u' => wpY_offer (fun r' v' => r' = r ∧ i_Rel (k + 4) u' v') v v1 v2 v3) u v1 v2 v3) ?_ I
  intro A nc lc dc ec dp T hsm mk tc mv ws wd so fi sp sc ip it fl wa lg lw ln pr pe am xr xf st ba wt ki ow su dl da ch di md iN iW nw yr yf ni gt src hT hN hM hL hI hTb hS hD hW hC hV hH hK hE hR hs0 hw0
  have R0 : i_Rel (k + 4) ((nI A), (nI nc), (nI lc), (nI dc), (nI ec), (nI dp), hsm, mk, 0, tc, mv, (nI T), ws, wd, so, fi, sp, sc, ip, it, fl, wa, lg, lw, ln, pr, pe, am, xr, xf, st, ba, wt, ki, ow, su, dl, da, ch, di) ((nI A), (nI T), (nI nc), (nI dc), (nI dp), (nI ec), ba, md, so, fi, sp, ip, iN, iW, nw, pr, pe, am, yr, yf, st, ki, ow, su, dl, da) := rl_in hT hN hM hL hI hTb hS hD hW hC hV hH hK hE hR hs0 hw0
  have hA := hD.2.1
  have h12 := hD.1
  rcases rd_ix v1 (n := A) (by omega) with h | ⟨p, hp, rfl⟩
  · exact rd_x0 h (br_t rfl (rd_y0 h (br_f en_10 ⟨rfl, R0⟩)))
  · rcases rd_ix v2 (n := A) (by omega) with h | ⟨q, hq, rfl⟩
    · exact rd_x1 hp (by omega) (br_f en_10 (rd_x0 h (br_t rfl (rd_y1 6 hp hA (by omega) (br_t rfl (rd_y0 h (br_f en_10 ⟨rfl, R0⟩)))))))
    · refine rd_x1 hp (by omega) (br_f en_10 (rd_x1 hq (by omega) (br_f en_10 ?_)))
      by_cases h1 : nI p = nI q
      · exact br_t h1 (rd_y1 6 hp hA (by omega) (br_t rfl (rd_y1 6 hq hA (by omega) (br_t rfl (br_t h1 ⟨rfl, R0⟩)))))
      · by_cases h2 : v3 < 1
        · exact br_f h1 (br_t h2 (rd_y1 6 hp hA (by omega) (br_t rfl (rd_y1 6 hq hA (by omega) (br_t rfl (br_f h1 (br_t h2 ⟨rfl, R0⟩)))))))
        · by_cases h3 : v3 ≤ 1000
          · have n1 : ¬ v3 < 0 := by
              have e1 : (1 : Int32).toInt = 1 := by decide
              have e0 : (0 : Int32).toInt = 0 := by decide
              rw [Int32.lt_iff_toInt_lt] at h2 ⊢; omega
            obtain ⟨m, hm, rfl⟩ := nI_of2 (n := 1000) (by decide) n1 h3
            by_cases h4 : dc < 12
            · have g1 : ¬ nI dc = 12 := by rw [show (12 : Int32) = nI 12 from rfl, nI_eq (by omega) (by omega)]; omega
              have g2 : nI dc < 12 := nI_lt (b := 12) h4 (by decide)
              have ii : vp_in (nI dc) 12 := vp_in_nI h4 (by omega)
              have c : (nI dc).toNatClampNeg = dc := nI_clamp (by omega)
              refine br_f h1 (br_f h2 (br_t h3 (br_f g1 ?_)))
              rw [c]
              refine ⟨ii, nm_e ⟨ii, nm_e ⟨ii, nm_e ⟨ii, nm_e (nm_r (nI_1 dc) ?_)⟩⟩⟩⟩
              rw [nI_pred]
              refine rd_y1 6 hp hA (by omega) (br_t rfl (rd_y1 6 hq hA (by omega) (br_t rfl (br_f h1 (br_f h2 (br_t h3 (br_t g2 ?_)))))))
              rw [c]
              exact ⟨ii, nm_e ⟨ii, nm_e ⟨ii, nm_e ⟨ii, nm_e ⟨ii, nm_e ⟨ii, nm_e (nm_r (nI_1 dc) ⟨rfl, of_rel hT hN hM hL hI hTb hS hD hW hC hV hH hK hE hR hs0 hw0 h4 hp hq hm⟩)⟩⟩⟩⟩⟩⟩
            · have g1 : nI dc = 12 := by rw [show dc = 12 by omega]; rfl
              have g2 : ¬ nI dc < 12 := nI_nlt (b := 12) (by omega) (by omega)
              exact br_f h1 (br_f h2 (br_t h3 (br_t g1 (rd_y1 6 hp hA (by omega) (br_t rfl (rd_y1 6 hq hA (by omega) (br_t rfl (br_f h1 (br_f h2 (br_t h3 (br_f g2 ⟨rfl, R0⟩)))))))))))
          · exact br_f h1 (br_f h2 (br_f h3 (rd_y1 6 hp hA (by omega) (br_t rfl (rd_y1 6 hq hA (by omega) (br_t rfl (br_f h1 (br_f h2 (br_f h3 ⟨rfl, R0⟩)))))))))
theorem of_cs {n : Int32} {x d : Nat} (hx : d ≠ x) : dl_c (upd st x n) pr am ba xr xf it d ↔ dl_c st pr am ba xr xf it d := by
  unfold dl_c
  rw [pk_un hx]
theorem of_can {s w : Prop} {d : Nat} (hT : T ≤ 2000) (hN : rl_N nc so fi sp) (hM : rl_M mk md) (hL : rl_L nc lc ni gt src ip fl lg ln) (hI : rl_I lc ni gt src lw iN iW) (hTb : rl_T nc lc gt src lw so fi sp mk (nI T) it) (hS : rl_S lc gt src lw it sc) (hD : rl_D A nc dc pr pe am xr xf st yr yf) (hW : rl_W dc pr st wt) (hC : rl_C dc xr xf wa) (hV : rl_V dc mv tc (dl_c st pr am ba xr xf it)) (hH : rl_H dc st am hsm) (hK : rl_K dc dp ec st) (hE : rl_E A T ec ow su da) (hR : rl_R (en_F ki ow su ec) ch di) (hs0 : (s → ∀ d, d < dc → ¬ dl_c st pr am ba xr xf it d)) (hw0 : (w → ∀ k, k < nc → nw k = it k)) (hd : d < dc) (h01 : st d = 0 ∨ st d = 1) :
    rl_U s False ((nI A), (nI nc), (nI lc), (nI dc), (nI ec), (nI dp), hsm, mk, 0, (tc ||| ((1 : Int32) <<< (nI d &&& 31))), mv, (nI T), ws, wd, so, fi, sp, sc, ip, it, fl, wa, lg, lw, ln, pr, pe, am, xr, xf, (upd st d 5), ba, (upd wt (pr d).toNatClampNeg (wt (pr d).toNatClampNeg &&& (((1 : Int32) <<< (nI d &&& 31)) ^^^ (-1)))), ki, ow, su, dl, da, ch, di) ((nI A), (nI T), (nI nc), (nI dc), (nI dp), (nI ec), ba, md, so, fi, sp, ip, iN, iW, nw, pr, pe, am, yr, yf, (upd st d 5), ki, ow, su, dl, da) := by
  have h12 := hD.1
  have no : ¬ dl_c (upd st d 5) pr am ba xr xf it d := by
    unfold dl_c
    rw [pk_us]
    rintro (w | w)
    · exact absurd w.1 (by decide)
    · exact absurd w.1 (by decide)
  have hw1 : ∀ p j, j < 32 → bt (wt p) j = true → j ≠ d → bt (upd wt (pr d).toNatClampNeg (wt (pr d).toNatClampNeg &&& (((1 : Int32) <<< (nI d &&& 31)) ^^^ (-1))) p) j = true := by
    intro p j hj hb hne
    by_cases e : p = (pr d).toNatClampNeg
    · rw [e, pk_us, eb_clr _ (by omega) hj, ← e, hb, decide_eq_false hne]; rfl
    · rw [pk_un e]; exact hb
  have h02 : ¬ st d = 2 := by
    rcases h01 with h | h
    · rw [h]; decide
    · rw [h]; decide
  refine rl_in hT hN hM hL hI hTb hS ⟨h12, hD.2.1, fun e he => ?_, hD.2.2.2⟩ (sm_W hW h12 (by decide) hw1) hC ⟨fun e he hb => ?_, hV.2⟩ ?_ ⟨?_, hK.2⟩ hE hR (fun h e he => ?_) (fun h => absurd h id)
  · obtain ⟨h1, h2, h3, h4, h5, h6⟩ := hD.2.2.1 e he
    refine ⟨h1, h2, h3, h4, h5, ?_⟩
    by_cases q : e = d
    · rcases h6 with h6 | h6
      · rw [q, pk_us]; exact Or.inl ⟨by rw [← q]; exact h6.1, by decide, by decide⟩
      · exact Or.inr h6
    · rw [pk_un q]; exact h6
  · rw [eb_set tc (by omega) (by omega)] at hb
    by_cases q : e = d
    · rw [decide_eq_true q, Bool.or_true] at hb; exact absurd hb (by decide)
    · rw [decide_eq_false q, Bool.or_false] at hb
      rw [of_cs q]; exact hV.1 e he hb
  · unfold rl_H at hH ⊢
    rw [hH]
    refine es_i_cg dc (fun i hi => ?_)
    by_cases q : i = d
    · rw [q, pk_us, if_neg h02, if_neg (by decide)]
    · rw [pk_un q]
  · have := es_n_ch (f := fun d => rl_pt (st d)) (g := fun e => rl_pt (upd st d 5 e)) (k := d) dc hd (fun i hi hne => by rw [pk_un hne])
    try dsimp only at this
    rw [pk_us, show rl_pt 5 = 0 by decide] at this
    have := hK.1
    omega
  · by_cases q : e = d
    · rw [q]; exact no
    · rw [of_cs q]; exact hs0 h e he
theorem i_vc_cancel {k : Nat} {u : SX} {v : SY} (I : i_Rel k u v) (hk : k + 4 ≤ 2049) (v1 : Int32) : wpX_cancel (fun r u' => wpY_cancel (fun r' v' => r' = r ∧ i_Rel (k + 4) u' v') v v1) u v1 := by
  refine rl_el (P := fun u v => wpX_cancel (fun r u' => wpY_cancel (fun r' v' => r' = r ∧ i_Rel (k + 4) u' v') v v1) u v1) ?_ I
  intro A nc lc dc ec dp T hsm mk tc mv ws wd so fi sp sc ip it fl wa lg lw ln pr pe am xr xf st ba wt ki ow su dl da ch di md iN iW nw yr yf ni gt src hT hN hM hL hI hTb hS hD hW hC hV hH hK hE hR hs0 hw0
  have R0 : i_Rel (k + 4) ((nI A), (nI nc), (nI lc), (nI dc), (nI ec), (nI dp), hsm, mk, 0, tc, mv, (nI T), ws, wd, so, fi, sp, sc, ip, it, fl, wa, lg, lw, ln, pr, pe, am, xr, xf, st, ba, wt, ki, ow, su, dl, da, ch, di) ((nI A), (nI T), (nI nc), (nI dc), (nI dp), (nI ec), ba, md, so, fi, sp, ip, iN, iW, nw, pr, pe, am, yr, yf, st, ki, ow, su, dl, da) := rl_in hT hN hM hL hI hTb hS hD hW hC hV hH hK hE hR hs0 hw0
  have hA := hD.2.1
  have h12 := hD.1
  rcases rd_ix v1 (n := dc) (by omega) with h | ⟨d, hd, rfl⟩
  · exact rd_x0 h (br_t rfl (rd_y0 h (br_f en_10 ⟨rfl, R0⟩)))
  · have ii : vp_in (nI d) 12 := vp_in_nI (by omega) (by omega)
    have c : (nI d).toNatClampNeg = d := nI_clamp (by omega)
    obtain ⟨⟨p, hp, ep⟩, _⟩ := hD.2.2.1 d hd
    have ip6 : vp_in (pr d) 6 := by rw [ep]; exact vp_in_nI (by omega) (by omega)
    have fin : ∀ {post : Int32 → SX → Prop} {x2 : Int32}, post x2 ((nI A), (nI nc), (nI lc), (nI dc), (nI ec), (nI dp), hsm, mk, 0, (tc ||| ((1 : Int32) <<< (nI d &&& 31))), mv, (nI T), ws, wd, so, fi, sp, sc, ip, it, fl, wa, lg, lw, ln, pr, pe, am, xr, xf, (upd st d 5), ba, (upd wt (pr d).toNatClampNeg (wt (pr d).toNatClampNeg &&& (((1 : Int32) <<< (nI d &&& 31)) ^^^ (-1)))), ki, ow, su, dl, da, ch, di) → wX_cancel_29 post (nI d) x2 (nI A) (nI nc) (nI lc) (nI dc) (nI ec) (nI dp) hsm mk 0 tc mv (nI T) ws wd so fi sp sc ip it fl wa lg lw ln pr pe am xr xf st ba wt ki ow su dl da ch di := by
      intro post x2 K
      unfold wX_cancel_29
      rw [c]
      exact nm_e ⟨ii, nm_e ⟨ii, ii, ip6, ip6, nm_e (nm_e K)⟩⟩
    refine rd_x1 hd (by omega) (br_f en_10 (And.intro ii ?_))
    rw [c]
    refine nm_e (br_c (fun z => fin ?_) (fun z => br_c (fun z1 => fin ?_) (fun z1 => ?_)))
    · refine rd_y1 12 hd h12 (by omega) (br_t rfl (And.intro ii ?_))
      rw [c]
      exact nm_e (br_t z ⟨ii, nm_e ⟨rfl, of_can hT hN hM hL hI hTb hS hD hW hC hV hH hK hE hR hs0 hw0 hd (Or.inl z)⟩⟩)
    · refine rd_y1 12 hd h12 (by omega) (br_t rfl (And.intro ii ?_))
      rw [c]
      exact nm_e (br_f z (br_t z1 ⟨ii, nm_e ⟨rfl, of_can hT hN hM hL hI hTb hS hD hW hC hV hH hK hE hR hs0 hw0 hd (Or.inr z1)⟩⟩))
    · refine rd_y1 12 hd h12 (by omega) (br_t rfl (And.intro ii ?_))
      rw [c]
      exact nm_e (br_f z (br_f z1 ⟨rfl, R0⟩))
theorem of_dV {a : Nat} {z : Int32} (hD : rl_D A nc dc pr pe am xr xf st yr yf) (hW : rl_W dc pr st wt) (hV : rl_V dc mv tc (dl_c st pr am ba xr xf it)) : rl_V dc mv (tc ||| wt a) (dl_c st pr am (upd ba a z) xr xf it) := by
  refine ⟨fun e he hb => ?_, hV.2⟩
  rw [b_or] at hb
  have g1 : bt tc e = false := by cases w : bt tc e; rfl; rw [w] at hb; exact absurd hb (by simp)
  have g2 : bt (wt a) e = false := by cases w : bt (wt a) e; rfl; rw [w, Bool.or_true] at hb; exact absurd hb (by simp)
  rw [hV.1 e he g1]
  unfold dl_c
  by_cases h1 : st e = 1
  · have : (pr e).toNatClampNeg ≠ a := by
      intro w
      have := hW e he h1
      rw [w, g2] at this
      exact absurd this (by decide)
    rw [pk_un this]
  · constructor
    · rintro (w | w)
      · exact absurd w.1 h1
      · exact Or.inr w
    · rintro (w | w)
      · exact absurd w.1 h1
      · exact Or.inr w
theorem i_vc_deposit {k : Nat} {u : SX} {v : SY} (I : i_Rel k u v) (hk : k + 4 ≤ 2049) (v1 : Int32) (v2 : Int32) : wpX_deposit (fun r u' => wpY_deposit (fun r' v' => r' = r ∧ i_Rel (k + 4) u' v') v v1 v2) u v1 v2 := by
  refine rl_el (P := fun u v => wpX_deposit (fun r u' => wpY_deposit (fun r' v' => r' = r ∧ i_Rel (k + 4) u' v') v v1 v2) u v1 v2) ?_ I
  intro A nc lc dc ec dp T hsm mk tc mv ws wd so fi sp sc ip it fl wa lg lw ln pr pe am xr xf st ba wt ki ow su dl da ch di md iN iW nw yr yf ni gt src hT hN hM hL hI hTb hS hD hW hC hV hH hK hE hR hs0 hw0
  have R0 : i_Rel (k + 4) ((nI A), (nI nc), (nI lc), (nI dc), (nI ec), (nI dp), hsm, mk, 0, tc, mv, (nI T), ws, wd, so, fi, sp, sc, ip, it, fl, wa, lg, lw, ln, pr, pe, am, xr, xf, st, ba, wt, ki, ow, su, dl, da, ch, di) ((nI A), (nI T), (nI nc), (nI dc), (nI dp), (nI ec), ba, md, so, fi, sp, ip, iN, iW, nw, pr, pe, am, yr, yf, st, ki, ow, su, dl, da) := rl_in hT hN hM hL hI hTb hS hD hW hC hV hH hK hE hR hs0 hw0
  have hA := hD.2.1
  have h12 := hD.1
  have hK1 := hK.1
  have hK2 := hK.2
  rcases rd_ix v1 (n := A) (by omega) with h | ⟨a, ha, rfl⟩
  · exact rd_x0 h (br_t rfl (rd_y0 h (br_f en_10 ⟨rfl, R0⟩)))
  · refine rd_x1 ha (by omega) (br_f en_10 ?_)
    by_cases h2 : v2 < 1
    · exact br_t h2 (rd_y1 6 ha hA (by omega) (br_t rfl (br_t h2 ⟨rfl, R0⟩)))
    · by_cases h3 : v2 ≤ 1000
      · by_cases h4 : nI dp = 40
        · exact br_f h2 (br_t h3 (br_t h4 (rd_y1 6 ha hA (by omega) (br_t rfl (br_f h2 (br_t h3 (br_t h4 ⟨rfl, R0⟩)))))))
        · have hdp : dp < 40 := by
            rcases Nat.lt_or_ge dp 40 with w | w
            · exact w
            · have : dp = 40 := by omega
              rw [this] at h4
              exact absurd rfl h4
          have n1 : ¬ v2 < 0 := by
            have e1 : (1 : Int32).toInt = 1 := by decide
            have e0 : (0 : Int32).toInt = 0 := by decide
            rw [Int32.lt_iff_toInt_lt] at h2 ⊢; omega
          obtain ⟨m, hm, rfl⟩ := nI_of2 (n := 1000) (by decide) n1 h3
          have hec : ec < 64 := by omega
          have ia : vp_in (nI a) 6 := vp_in_nI (by omega) (by omega)
          have ca : (nI a).toNatClampNeg = a := nI_clamp (by omega)
          refine br_f h2 (br_t h3 (br_f h4 (nm_r (nI_1 dp) (xe_enter (a := a) (kd := 0) (sg := nI m) hec (by omega) hm (fun i hi => (hE.1 i hi).2.1) hR (Or.inr ⟨by decide, rfl⟩) (fun ch' di' hR' => ?_)))))
          refine sm_settle (s := False) (w := False) hT hN hM hL hI hTb hS hD hW hC (of_dV hD hW hV) hH ⟨by omega, by omega⟩ (sm_E hE ha hm (by omega)) hR' (fun h => absurd h id) hw0 (fun r u' v' hU hY => ?_)
          refine rd_y1 6 ha hA (by omega) (br_t rfl (br_f h2 (br_t h3 (br_f h4 (nm_r (nI_1 dp) (And.intro ia (And.intro ia ?_)))))))
          rw [ca]
          exact nm_e (dl_yen hec (hY _ (And.intro rfl (rl_we id (fun h => absurd h id) hU))))
      · exact br_f h2 (br_f h3 (rd_y1 6 ha hA (by omega) (br_t rfl (br_f h2 (br_f h3 ⟨rfl, R0⟩)))))
end OF
end
section
section TE
variable {A nc lc dc ec dp T : Nat} {hsm mk dy tc mv ws wd : Int32} {so fi sp sc ip it fl wa lg lw ln pr pe am xr xf st ba wt ki ow su dl da ch di md iN iW nw yr yf : Nat → Int32} {ni gt src : Nat → Nat}
theorem te_or {x y : Int32} {j : Nat} (h : bt x j = true) : bt (x ||| y) j = true := by rw [b_or, h]; rfl
theorem te_D {d r f : Nat} (hD : rl_D A nc dc pr pe am xr xf st yr yf) (hd : d < dc) (hr : r < nc) (hf : f < nc) : rl_D A nc dc pr pe am (upd xr d (nI r)) (upd xf d (nI f)) (upd st d 1) (upd yr d (nI r)) (upd yf d (nI f)) := by
  refine ⟨hD.1, hD.2.1, fun e he => ?_, fun e h1 h2 => ?_⟩
  · obtain ⟨h1, h2, h3, h4, h5, h6⟩ := hD.2.2.1 e he
    refine ⟨h1, h2, h3, ?_⟩
    by_cases q : e = d
    · rw [q, pk_us, pk_us, pk_us, pk_us, pk_us]
      exact ⟨rfl, rfl, Or.inr ⟨r, f, hr, hf, rfl, rfl⟩⟩
    · rw [pk_un q, pk_un q, pk_un q, pk_un q, pk_un q]
      exact ⟨h4, h5, h6⟩
  · rw [pk_un (show e ≠ d by omega), pk_un (show e ≠ d by omega)]
    exact hD.2.2.2 e h1 h2
theorem te_W {d : Nat} (h12 : dc ≤ 12) (hW : rl_W dc pr st wt) (hd : d < dc) : rl_W dc pr (upd st d 1) (upd wt (pr d).toNatClampNeg (wt (pr d).toNatClampNeg ||| ((1 : Int32) <<< (nI d &&& 31)))) := by
  intro e he h
  by_cases q : e = d
  · rw [q, pk_us, eb_set _ (by omega) (by omega), decide_eq_true rfl, Bool.or_true]
  · rw [pk_un q] at h
    by_cases w : (pr e).toNatClampNeg = (pr d).toNatClampNeg
    · rw [w, pk_us]; exact te_or (by rw [← w]; exact hW e he h)
    · rw [pk_un w]; exact hW e he h
theorem te_C {d r f : Nat} (hC : rl_C dc xr xf wa) (h12 : dc ≤ 12) (hd : d < dc) (hr : r < 24) (hf : f < 24) : rl_C dc (upd xr d (nI r)) (upd xf d (nI f)) (upd (upd wa r (wa r ||| ((1 : Int32) <<< (nI d &&& 31)))) f (upd wa r (wa r ||| ((1 : Int32) <<< (nI d &&& 31))) f ||| ((1 : Int32) <<< (nI d &&& 31)))) := by
  have mono1 : ∀ p j, bt (wa p) j = true → bt (upd wa r (wa r ||| ((1 : Int32) <<< (nI d &&& 31))) p) j = true := by
    intro p j hb
    by_cases w : p = r
    · rw [w, pk_us]; exact te_or (by rw [← w]; exact hb)
    · rw [pk_un w]; exact hb
  have mono2 : ∀ p j, bt (upd wa r (wa r ||| ((1 : Int32) <<< (nI d &&& 31))) p) j = true → bt (upd (upd wa r (wa r ||| ((1 : Int32) <<< (nI d &&& 31)))) f (upd wa r (wa r ||| ((1 : Int32) <<< (nI d &&& 31))) f ||| ((1 : Int32) <<< (nI d &&& 31))) p) j = true := by
    intro p j hb
    by_cases w : p = f
    · rw [w, pk_us]; exact te_or (by rw [← w]; exact hb)
    · rw [pk_un w]; exact hb
  intro e he
  by_cases q : e = d
  · rw [q, pk_us, pk_us]
    refine ⟨fun r' hr' h => ?_, fun f' hf' h => ?_⟩
    · rw [← en_im h (by omega) (by omega)]
      refine mono2 _ _ ?_
      rw [pk_us, eb_set _ (by omega) (by omega), decide_eq_true rfl, Bool.or_true]
    · rw [← en_im h (by omega) (by omega), pk_us, eb_set _ (by omega) (by omega), decide_eq_true rfl, Bool.or_true]
  · rw [pk_un q, pk_un q]
    exact ⟨fun r' hr' h => mono2 _ _ (mono1 _ _ ((hC e he).1 r' hr' h)), fun f' hf' h => mono2 _ _ (mono1 _ _ ((hC e he).2 f' hf' h))⟩
theorem te_V {d r f : Nat} (h12 : dc ≤ 12) (hd : d < dc) (hV : rl_V dc mv tc (dl_c st pr am ba xr xf it)) : rl_V dc mv (tc ||| ((1 : Int32) <<< (nI d &&& 31))) (dl_c (upd st d 1) pr am ba (upd xr d (nI r)) (upd xf d (nI f)) it) := by
  refine ⟨fun e he hb => ?_, hV.2⟩
  rw [eb_set tc (by omega) (by omega)] at hb
  by_cases q : e = d
  · rw [decide_eq_true q, Bool.or_true] at hb; exact absurd hb (by decide)
  · rw [decide_eq_false q, Bool.or_false] at hb
    rw [hV.1 e he hb]
    unfold dl_c
    rw [pk_un q, pk_un q, pk_un q]
theorem te_H {d : Nat} (hH : rl_H dc st am hsm) (h0 : st d = 0) : rl_H dc (upd st d 1) am hsm := by
  unfold rl_H at hH ⊢
  rw [hH]
  refine es_i_cg dc (fun i hi => ?_)
  by_cases q : i = d
  · rw [q, pk_us, h0, if_neg (by decide), if_neg (by decide)]
  · rw [pk_un q]
theorem te_K {d : Nat} (hK : rl_K dc dp ec st) (h0 : st d = 0) : rl_K dc dp ec (upd st d 1) := by
  refine ⟨?_, hK.2⟩
  rw [es_n_cg (g := fun e => rl_pt (st e)) dc (fun i hi => by
    by_cases q : i = d
    · rw [q, pk_us, h0]; decide
    · rw [pk_un q])]
  exact hK.1
theorem i_vc_terms {k : Nat} {u : SX} {v : SY} (I : i_Rel k u v) (hk : k + 4 ≤ 2049) (v1 : Int32) (v2 : Int32) (v3 : Int32) : wpX_terms (fun r u' => wpY_terms (fun r' v' => r' = r ∧ i_Rel (k + 4) u' v') v v1 v2 v3) u v1 v2 v3 := by
  refine rl_el (P := fun u v => wpX_terms (fun r u' => wpY_terms (fun r' v' => r' = r ∧ i_Rel (k + 4) u' v') v v1 v2 v3) u v1 v2 v3) ?_ I
  intro A nc lc dc ec dp T hsm mk tc mv ws wd so fi sp sc ip it fl wa lg lw ln pr pe am xr xf st ba wt ki ow su dl da ch di md iN iW nw yr yf ni gt src hT hN hM hL hI hTb hS hD hW hC hV hH hK hE hR hs0 hw0
  have R0 : i_Rel (k + 4) ((nI A), (nI nc), (nI lc), (nI dc), (nI ec), (nI dp), hsm, mk, 0, tc, mv, (nI T), ws, wd, so, fi, sp, sc, ip, it, fl, wa, lg, lw, ln, pr, pe, am, xr, xf, st, ba, wt, ki, ow, su, dl, da, ch, di) ((nI A), (nI T), (nI nc), (nI dc), (nI dp), (nI ec), ba, md, so, fi, sp, ip, iN, iW, nw, pr, pe, am, yr, yf, st, ki, ow, su, dl, da) := rl_in hT hN hM hL hI hTb hS hD hW hC hV hH hK hE hR hs0 hw0
  have hA := hD.2.1
  have h12 := hD.1
  have hnc := hN.1
  rcases rd_ix v1 (n := dc) (by omega) with h | ⟨d, hd, rfl⟩
  · exact rd_x0 h (br_t rfl (rd_y0 h (br_f en_10 ⟨rfl, R0⟩)))
  · have ii : vp_in (nI d) 12 := vp_in_nI (by omega) (by omega)
    have c : (nI d).toNatClampNeg = d := nI_clamp (by omega)
    obtain ⟨⟨p, hp, ep⟩, _⟩ := hD.2.2.1 d hd
    have ip6 : vp_in (pr d) 6 := by rw [ep]; exact vp_in_nI (by omega) (by omega)
    refine rd_x1 hd (by omega) (br_f en_10 (And.intro ii ?_))
    rw [c]
    by_cases h0 : st d = 0
    · rcases rd_ix v2 (n := nc) (by omega) with h | ⟨r, hr, rfl⟩
      · refine br_t h0 (rd_x0 h (br_t rfl (rd_y1 12 hd h12 (by omega) (br_t rfl (And.intro ii ?_)))))
        rw [c]
        exact br_t h0 (rd_y0 h (br_f en_10 ⟨rfl, R0⟩))
      · rcases rd_ix v3 (n := nc) (by omega) with h | ⟨f, hf, rfl⟩
        · refine br_t h0 (rd_x1 hr (by omega) (br_f en_10 (rd_x0 h (br_t rfl (rd_y1 12 hd h12 (by omega) (br_t rfl (And.intro ii ?_)))))))
          rw [c]
          exact br_t h0 (rd_y1 24 hr hnc (by omega) (br_t rfl (rd_y0 h (br_f en_10 ⟨rfl, R0⟩))))
        · have cr : (nI r).toNatClampNeg = r := nI_clamp (by omega)
          have cf : (nI f).toNatClampNeg = f := nI_clamp (by omega)
          have ir : vp_in (nI r) 24 := vp_in_nI (by omega) (by omega)
          have iF : vp_in (nI f) 24 := vp_in_nI (by omega) (by omega)
          refine br_t h0 (rd_x1 hr (by omega) (br_f en_10 (rd_x1 hf (by omega) (br_f en_10 ?_))))
          rw [cr, cf]
          refine nm_e ⟨ii, nm_e ⟨ii, nm_e ⟨ir, ir, nm_e ⟨iF, iF, nm_e ⟨ii, nm_e ⟨ii, ii, ip6, ip6, nm_e (nm_e ?_)⟩⟩⟩⟩⟩⟩
          refine sm_settle (s := False) (w := False) hT hN hM hL hI hTb hS (te_D hD hd hr hf) (te_W h12 hW hd) (te_C hC h12 hd (by omega) (by omega)) (te_V h12 hd hV) (te_H hH h0) (te_K hK h0) hE hR (fun h => absurd h id) hw0 (fun r' u' v' hU hY => ?_)
          refine rd_y1 12 hd h12 (by omega) (br_t rfl (And.intro ii ?_))
          rw [c]
          exact br_t h0 (rd_y1 24 hr hnc (by omega) (br_t rfl (rd_y1 24 hf hnc (by omega) (br_t rfl ⟨ii, nm_e ⟨ii, nm_e ⟨ii, nm_e (hY _ (And.intro rfl (rl_we id (fun h => absurd h id) hU)))⟩⟩⟩))))
    · refine br_f h0 (rd_y1 12 hd h12 (by omega) (br_t rfl (And.intro ii ?_)))
      rw [c]
      exact br_f h0 ⟨rfl, R0⟩
end TE
end
section
section LI
variable {A nc lc dc ec dp T : Nat} {hsm mk dy tc mv ws wd : Int32} {so fi sp sc ip it fl wa lg lw ln pr pe am xr xf st ba wt ki ow su dl da ch di md iN iW nw yr yf : Nat → Int32} {ni gt src : Nat → Nat}
/-- the deals that the turned nodes don't touch can move as before -/
theorem li_V {it1 : Nat → Int32} {tc1 : Int32} (hD : rl_D A nc dc pr pe am xr xf st yr yf) (hnc : nc ≤ 24) (hC : rl_C dc xr xf wa) (hV : rl_V dc mv tc (dl_c st pr am ba xr xf it))
    (ht : ∀ d, d < 32 → bt tc1 d = false → bt tc d = false ∧ ∀ j, j < nc → bt (wa j) d = true → it1 j = it j) : rl_V dc mv tc1 (dl_c st pr am ba xr xf it1) := by
  have h12 := hD.1
  refine ⟨fun d hd hb => ?_, hV.2⟩
  obtain ⟨g1, g2⟩ := ht d (by omega) hb
  rw [hV.1 d hd g1]
  exact (dl_cw hD hnc hC hd g2).symm
def li_u (f : Nat → Nat) (k x : Nat) : Nat → Nat := fun j => if j = k then x else f j
theorem li_us {f : Nat → Nat} {k x : Nat} : li_u f k x k = x := if_pos rfl
theorem li_un {f : Nat → Nat} {k x j : Nat} (h : j ≠ k) : li_u f k x j = f j := if_neg h
theorem li_x {g s h : Nat} {w : Int32} {t : Nat → Int32} : nh_x (li_u gt lc g) (upd lw lc w) (fun e => t (li_u src lc s e)) h (lc + 1) = nh_x gt lw (fun e => t (src e)) h lc + (if g = h ∧ ¬ t s = 0 then w else 0) := by
  unfold nh_x
  rw [es_i_s]
  simp only [li_us, pk_us]
  congr 1
  exact es_i_cg lc (fun i hi => by simp only [li_un (show i ≠ lc by omega), pk_un (show i ≠ lc by omega)])
theorem li_L {g s : Nat} (hnc : nc ≤ 24) (hL : rl_L nc lc ni gt src ip fl lg ln) (hg : g < nc) (hs : s < g) (h6 : ni g < 6) : rl_L nc (lc + 1) (li_u ni g (ni g + 1)) (li_u gt lc g) (li_u src lc s) (upd ip g (ip g + 1)) (upd fl s (nI lc)) (upd lg lc (nI g)) (upd ln lc (fl s)) := by
  obtain ⟨hL1, hL2, hL3, hL4, hL5, hL6, hL7⟩ := hL
  have e1 : es_n (li_u ni g (ni g + 1)) 24 = es_n ni 24 + 1 := by
    have := es_n_ch (f := ni) (g := li_u ni g (ni g + 1)) (k := g) 24 (by omega) (fun i hi hne => (li_un hne).symm)
    rw [li_us] at this
    omega
  have h61 : ∀ i, li_u ni g (ni g + 1) i ≤ 6 := by
    intro i
    by_cases q : i = g
    · rw [q, li_us]; omega
    · rw [li_un q]; exact (hL1 i).2
  have e2 := es_n_le (f := li_u ni g (ni g + 1)) (c := 6) 24 (fun i _ => h61 i)
  refine ⟨fun j => ⟨?_, h61 j⟩, fun j hj => ?_, by omega, by omega, fun e he => ?_, fun e he => ?_, fun j hj => ?_⟩
  · by_cases q : j = g
    · rw [q, pk_us, li_us, (hL1 g).1, nI_1]
    · rw [pk_un q, li_un q]; exact (hL1 j).1
  · rw [li_un (by omega)]; exact hL2 j hj
  · by_cases q : e = lc
    · rw [q, pk_us, li_us, li_us]; exact ⟨rfl, hs, hg⟩
    · rw [pk_un q, li_un q, li_un q]; exact hL5 e (by omega)
  · by_cases q : e = lc
    · rw [q, pk_us, li_us, hL7 s (by omega)]
      exact el_a_g lc (fun e he => (li_un (by omega)).symm)
    · rw [pk_un q, li_un q, hL6 e (by omega)]
      exact el_a_g e (fun e' he' => (li_un (by omega)).symm)
  · rw [el_a_s, li_us]
    by_cases q : j = s
    · rw [q, pk_us, if_pos rfl]
    · rw [pk_un q, if_neg (fun w => q w.symm), hL7 j hj]
      exact el_a_g lc (fun e he => (li_un (by omega)).symm)
theorem li_I {g s : Nat} {w : Int32} (hL1 : ∀ g, ip g = nI (ni g) ∧ ni g ≤ 6) (hI : rl_I lc ni gt src lw iN iW) (hs : s < g) (h6 : ni g < 6) (hs3 : s < 100) : rl_I (lc + 1) (li_u ni g (ni g + 1)) (li_u gt lc g) (li_u src lc s) (upd lw lc w) (upd iN (6 * g + ni g) (nI s)) (upd iW (6 * g + ni g) w) := by
  refine ⟨fun h j hj => ?_, fun h t => ?_⟩
  · by_cases q : h = g
    · rw [q, li_us] at hj
      by_cases z : j = ni g
      · rw [q, z, pk_us]; exact ⟨s, hs, rfl⟩
      · rw [q, pk_un (by omega)]; exact hI.1 g j (by omega)
    · rw [li_un q] at hj
      have := (hL1 h).2
      rw [pk_un (by omega)]; exact hI.1 h j hj
  · rw [li_x, ← hI.2 h t]
    unfold nh_y
    by_cases q : h = g
    · rw [q, li_us, es_i_s, pk_us, pk_us, nI_clamp (by omega)]
      have e1 : es_i (fun j => if t (upd iN (6 * g + ni g) (nI s) (6 * g + j)).toNatClampNeg = 0 then 0 else upd iW (6 * g + ni g) w (6 * g + j)) (ni g) = es_i (fun j => if t (iN (6 * g + j)).toNatClampNeg = 0 then 0 else iW (6 * g + j)) (ni g) :=
        es_i_cg (ni g) (fun i hi => by rw [pk_un (by omega), pk_un (by omega)])
      rw [e1]
      congr 1
      by_cases z : t s = 0
      · rw [if_pos z, if_neg (fun y => y.2 z)]
      · rw [if_neg z, if_pos ⟨rfl, z⟩]
    · have := (hL1 h).2
      rw [li_un q, if_neg (fun y => q y.1.symm), Int32.add_zero]
      exact es_i_cg (ni h) (fun i hi => by rw [pk_un (by omega), pk_un (by omega)])
theorem li_j {post : Int32 → SX → Prop} {g s : Nat} {w : Int32} {sc1 : Nat → Int32} (hN : rl_N nc so fi sp) (hL : rl_L nc (lc + 1) (li_u ni g (ni g + 1)) (li_u gt lc g) (li_u src lc s) (upd ip g (ip g + 1)) (upd fl s (nI lc)) (upd lg lc (nI g)) (upd ln lc (fl s))) (hTb : rl_T nc lc gt src lw so fi sp mk (nI T) it) (hg : g < nc)
    (hsc : ∀ h, sc1 h = nh_x (li_u gt lc g) (upd lw lc w) (fun e => it (li_u src lc s e)) h (lc + 1))
    (K : ∀ (it' sc' : Nat → Int32) (tc' : Int32), rl_S (lc + 1) (li_u gt lc g) (li_u src lc s) (upd lw lc w) it' sc' → rl_T nc (lc + 1) (li_u gt lc g) (li_u src lc s) (upd lw lc w) so fi sp mk (nI T) it' → (∀ d, d < 32 → bt tc' d = false → bt tc d = false ∧ ∀ j, j < nc → bt (wa j) d = true → it' j = it j) →
      wpX_settle post ((nI A), (nI nc), (nI (lc + 1)), (nI dc), (nI ec), (nI dp), hsm, mk, 0, tc', mv, (nI T), ws, wd, so, fi, sp, sc', (upd ip g (ip g + 1)), it', (upd fl s (nI lc)), wa, (upd lg lc (nI g)), (upd lw lc w), (upd ln lc (fl s)), pr, pe, am, xr, xf, st, ba, wt, ki, ow, su, dl, da, ch, di)) :
    wX_link_138 post (nI g) (nI A) (nI nc) (nI (lc + 1)) (nI dc) (nI ec) (nI dp) hsm mk 0 tc mv (nI T) ws wd so fi sp sc1 (upd ip g (ip g + 1)) it (upd fl s (nI lc)) wa (upd lg lc (nI g)) (upd lw lc w) (upd ln lc (fl s)) pr pe am xr xf st ba wt ki ow su dl da ch di := by
  have hnc := hN.1
  refine nm_e (xn_prop hnc (yn_win hN) hL.2.2.2 hsc (fun j hj => nh_T01 hTb hj) (fun j hj hb => ?_) (fun it' sc' tc' h1 h2 h3 => K it' sc' tc' h1 h2 h3))
  rw [eb_one (by omega) (by omega)] at hb
  have q : ¬ j = g := fun z => by rw [decide_eq_true z] at hb; exact absurd hb (by decide)
  rw [li_x, if_neg (fun y => q y.1.symm), Int32.add_zero]
  exact hTb j hj
set_option maxHeartbeats 1000000 in
theorem i_vc_link {k : Nat} {u : SX} {v : SY} (I : i_Rel k u v) (hk : k + 4 ≤ 2049) (v1 : Int32) (v2 : Int32) (v3 : Int32) : wpX_link (fun r u' => wpY_link (fun r' v' => r' = r ∧ i_Rel (k + 4) u' v') v v1 v2 v3) u v1 v2 v3 := by
  refine rl_el (P := fun u v => wpX_link (fun r u' => wpY_link (fun r' v' => r' = r ∧ i_Rel (k + 4) u' v') v v1 v2 v3) u v1 v2 v3) ?_ I
  intro A nc lc dc ec dp T hsm mk tc mv ws wd so fi sp sc ip it fl wa lg lw ln pr pe am xr xf st ba wt ki ow su dl da ch di md iN iW nw yr yf ni gt src hT hN hM hL hI hTb hS hD hW hC hV hH hK hE hR hs0 hw0
  have R0 : i_Rel (k + 4) ((nI A), (nI nc), (nI lc), (nI dc), (nI ec), (nI dp), hsm, mk, 0, tc, mv, (nI T), ws, wd, so, fi, sp, sc, ip, it, fl, wa, lg, lw, ln, pr, pe, am, xr, xf, st, ba, wt, ki, ow, su, dl, da, ch, di) ((nI A), (nI T), (nI nc), (nI dc), (nI dp), (nI ec), ba, md, so, fi, sp, ip, iN, iW, nw, pr, pe, am, yr, yf, st, ki, ow, su, dl, da) := rl_in hT hN hM hL hI hTb hS hD hW hC hV hH hK hE hR hs0 hw0
  have hnc := hN.1
  have hG := hL.2.2.2
  rcases rd_ix v1 (n := nc) (by omega) with h | ⟨g, hg, rfl⟩
  · exact rd_x0 h (br_t rfl (rd_y0 h (br_f en_10 ⟨rfl, R0⟩)))
  · have ig : vp_in (nI g) 24 := vp_in_nI (by omega) (by omega)
    have cg : (nI g).toNatClampNeg = g := nI_clamp (by omega)
    refine rd_x1 hg (by omega) (And.intro ig ?_)
    rw [cg]
    by_cases h3 : so g = 3
    · refine br_t h3 (br_f en_10 ?_)
      have Y0 : ∀ {post : Int32 → SY → Prop}, ((v2 < 0 → post (-2) ((nI A), (nI T), (nI nc), (nI dc), (nI dp), (nI ec), ba, md, so, fi, sp, ip, iN, iW, nw, pr, pe, am, yr, yf, st, ki, ow, su, dl, da)) ∧ (¬ v2 < 0 → ((v2 < nI g → ((v3 = 0 → post (-3) ((nI A), (nI T), (nI nc), (nI dc), (nI dp), (nI ec), ba, md, so, fi, sp, ip, iN, iW, nw, pr, pe, am, yr, yf, st, ki, ow, su, dl, da)) ∧ (¬ v3 = 0 → ((v3 < (-5) → post (-3) ((nI A), (nI T), (nI nc), (nI dc), (nI dp), (nI ec), ba, md, so, fi, sp, ip, iN, iW, nw, pr, pe, am, yr, yf, st, ki, ow, su, dl, da)) ∧ (¬ v3 < (-5) → ((v3 ≤ 5 → (vp_in (nI g) 24 ∧ (∀ x4 : Int32, x4 = ip (nI g).toNatClampNeg → ((x4 < 6 → (vp_in (6 * nI g + x4) 144 ∧ ∀ a1 : Nat → Int32, a1 = upd iN (6 * nI g + x4).toNatClampNeg v2 → (vp_in (6 * nI g + x4) 144 ∧ ∀ a2 : Nat → Int32, a2 = upd iW (6 * nI g + x4).toNatClampNeg v3 → (vp_in (nI g) 24 ∧ ∀ a3 : Nat → Int32, a3 = upd ip (nI g).toNatClampNeg (x4 + 1) → wpY_settle post ((nI A), (nI T), (nI nc), (nI dc), (nI dp), (nI ec), ba, md, so, fi, sp, a3, a1, a2, nw, pr, pe, am, yr, yf, st, ki, ow, su, dl, da))))) ∧ (¬ x4 < 6 → post (-4) ((nI A), (nI T), (nI nc), (nI dc), (nI dp), (nI ec), ba, md, so, fi, sp, ip, iN, iW, nw, pr, pe, am, yr, yf, st, ki, ow, su, dl, da)))))) ∧ (¬ v3 ≤ 5 → post (-3) ((nI A), (nI T), (nI nc), (nI dc), (nI dp), (nI ec), ba, md, so, fi, sp, ip, iN, iW, nw, pr, pe, am, yr, yf, st, ki, ow, su, dl, da)))))))) ∧ (¬ v2 < nI g → post (-2) ((nI A), (nI T), (nI nc), (nI dc), (nI dp), (nI ec), ba, md, so, fi, sp, ip, iN, iW, nw, pr, pe, am, yr, yf, st, ki, ow, su, dl, da))))) → wpY_link post ((nI A), (nI T), (nI nc), (nI dc), (nI dp), (nI ec), ba, md, so, fi, sp, ip, iN, iW, nw, pr, pe, am, yr, yf, st, ki, ow, su, dl, da) (nI g) v2 v3 := by
        intro post hh
        refine rd_y1 24 hg hnc (by omega) (br_t rfl (And.intro ig ?_))
        rw [cg] at hh ⊢
        exact br_t h3 hh
      by_cases h0 : v2 < 0
      · exact br_t h0 (Y0 (br_t h0 ⟨rfl, R0⟩))
      · by_cases h1 : v2 < nI g
        · by_cases h4 : v3 = 0
          · exact br_f h0 (br_t h1 (br_t h4 (Y0 (br_f h0 (br_t h1 (br_t h4 ⟨rfl, R0⟩))))))
          · by_cases h5 : v3 < (-5)
            · exact br_f h0 (br_t h1 (br_f h4 (br_t h5 (Y0 (br_f h0 (br_t h1 (br_f h4 (br_t h5 ⟨rfl, R0⟩))))))))
            · by_cases h6 : v3 ≤ 5
              · obtain ⟨s, hs, rfl⟩ := nI_of h0
                rw [nI_ltI hs (by omega)] at h1
                have g1 : nI s < nI g := nI_lt h1 (by omega)
                have cs : (nI s).toNatClampNeg = s := nI_clamp hs
                have is : vp_in (nI s) 24 := vp_in_nI (by omega) (by omega)
                have hni := hL.1 g
                refine br_f h0 (br_t g1 (br_f h4 (br_f h5 (br_t h6 (And.intro ig ?_)))))
                by_cases h7 : ni g = 6
                · have g2 : ip g = 6 := by rw [hni.1, h7]; rfl
                  have g3 : ¬ ip g < 6 := by rw [g2]; decide
                  refine br_t g2 (Y0 (br_f h0 (br_t g1 (br_f h4 (br_f h5 (br_t h6 (And.intro ig ?_)))))))
                  rw [cg]
                  exact nm_e (br_f g3 ⟨rfl, R0⟩)
                · have h7' : ni g < 6 := by omega
                  have g2 : ¬ ip g = 6 := by rw [hni.1, show (6 : Int32) = nI 6 from rfl, nI_eq (by omega) (by omega)]; exact h7
                  have g3 : ip g < 6 := by rw [hni.1]; exact nI_lt (b := 6) h7' (by decide)
                  have hL' := li_L (s := s) hnc hL hg h1 h7'
                  have hI' := li_I (w := v3) hL.1 hI h1 h7' (by omega)
                  have hlc : lc < 144 := by have := hL'.2.2.2.1; omega
                  have il : vp_in (nI lc) 144 := vp_in_nI hlc (by omega)
                  have cl : (nI lc).toNatClampNeg = lc := nI_clamp (by omega)
                  have e6 : 6 * nI g + nI (ni g) = nI (6 * g + ni g) := by rw [show (6 : Int32) = nI 6 from rfl, pk_mul, nI_add]
                  have c6 : (nI (6 * g + ni g)).toNatClampNeg = 6 * g + ni g := nI_clamp (by omega)
                  have i6 : vp_in (nI (6 * g + ni g)) 144 := vp_in_nI (by omega) (by omega)
                  rw [cs, cl]
                  refine br_f g2 ⟨ig, ig, nm_e ⟨il, nm_e ⟨il, nm_e ⟨is, il, nm_e ⟨is, nm_e (nm_r (nI_1 lc) ⟨is, ?_⟩)⟩⟩⟩⟩⟩
                  have fin : ∀ sc1 : Nat → Int32, (∀ h, sc1 h = nh_x (li_u gt lc g) (upd lw lc v3) (fun e => it (li_u src lc s e)) h (lc + 1)) → wX_link_138 (fun r u' => wpY_link (fun r' v' => r' = r ∧ i_Rel (k + 4) u' v') ((nI A), (nI T), (nI nc), (nI dc), (nI dp), (nI ec), ba, md, so, fi, sp, ip, iN, iW, nw, pr, pe, am, yr, yf, st, ki, ow, su, dl, da) (nI g) (nI s) v3) (nI g) (nI A) (nI nc) (nI (lc + 1)) (nI dc) (nI ec) (nI dp) hsm mk 0 tc mv (nI T) ws wd so fi sp sc1 (upd ip g (ip g + 1)) it (upd fl s (nI lc)) wa (upd lg lc (nI g)) (upd lw lc v3) (upd ln lc (fl s)) pr pe am xr xf st ba wt ki ow su dl da ch di := by
                    intro sc1 hsc1
                    refine li_j hN hL' hTb hg hsc1 (fun it' sc' tc' q1 q2 q3 => ?_)
                    refine sm_settle (s := False) (w := False) (nw := nw) hT hN hM hL' hI' q2 q1 hD hW hC (li_V hD hnc hC hV q3) hH hK hE hR (fun h => absurd h id) (fun h => absurd h id) (fun r u' v' hU hY => ?_)
                    refine Y0 (br_f h0 (br_t g1 (br_f h4 (br_f h5 (br_t h6 (And.intro ig (nm_r (congrArg ip cg) (br_t g3 ?_))))))))
                    rw [hni.1] at hY ⊢
                    rw [e6, c6, cg]
                    exact ⟨i6, nm_e ⟨i6, nm_e ⟨ig, nm_e (hY _ (And.intro rfl (rl_we id (fun h => absurd h id) hU)))⟩⟩⟩
                  refine br_c (fun z => fin sc (fun h => ?_)) (fun z => ⟨ig, ig, nm_e (fin _ (fun h => ?_))⟩)
                  · rw [li_x, if_neg (fun y => y.2 z), Int32.add_zero]; exact hS h
                  · rw [li_x]
                    by_cases q : h = g
                    · rw [q, pk_us, if_pos ⟨rfl, z⟩, hS g]
                    · rw [pk_un q, if_neg (fun y => q y.1.symm), Int32.add_zero]; exact hS h
              · exact br_f h0 (br_t h1 (br_f h4 (br_f h5 (br_f h6 (Y0 (br_f h0 (br_t h1 (br_f h4 (br_f h5 (br_f h6 ⟨rfl, R0⟩))))))))))
        · exact br_f h0 (br_f h1 (Y0 (br_f h0 (br_f h1 ⟨rfl, R0⟩))))
    · refine br_f h3 (br_t rfl (rd_y1 24 hg hnc (by omega) (br_t rfl (And.intro ig ?_))))
      rw [cg]
      exact br_f h3 ⟨rfl, R0⟩
end LI
end
section
section MA
variable {A nc lc dc ec dp T : Nat} {hsm mk dy tc mv ws wd : Int32} {so fi sp sc ip it fl wa lg lw ln pr pe am xr xf st ba wt ki ow su dl da ch di md iN iW nw yr yf : Nat → Int32} {ni gt src : Nat → Nat}
theorem ma_v {s : Nat} {m0 t sc0 : Int32} {j : Nat} (hj : j < nc) (hN : rl_N nc so fi sp) (hm : ∀ i, i < 8 → i ≠ s → bt mk i = bt m0 i) (h : ¬ (so j = 0 ∧ fi j = nI s)) : nh_v so fi sp mk t sc0 j = nh_v so fi sp m0 t sc0 j := by
  unfold nh_v
  by_cases h0 : so j = 0
  · rw [if_pos h0, if_pos h0]
    rcases hN.2 j hj with ⟨_, s', hs', es⟩ | ⟨w, _⟩ | ⟨w, _⟩ | w
    · have ne : s' ≠ s := fun z => h ⟨h0, by rw [es, z]⟩
      rw [es, eb_tst mk (by omega), eb_tst m0 (by omega), hm s' hs' ne]
    · rw [h0] at w; exact absurd w (by decide)
    · rw [h0] at w; exact absurd w (by decide)
    · rw [h0] at w; exact absurd w (by decide)
  · rw [if_neg h0, if_neg h0]
theorem ma_l {post : Int32 → SX → Prop} {s : Nat} {m0 : Int32} (hs : s < 8) (hm : ∀ i, i < 8 → i ≠ s → bt mk i = bt m0 i) (hN : rl_N nc so fi sp) (hG : rl_G nc lc gt src fl lg ln)
    (hS : rl_S lc gt src lw it sc) (hTb : rl_T nc lc gt src lw so fi sp m0 (nI T) it)
    (K : ∀ (it' sc' : Nat → Int32) (tc' : Int32), rl_S lc gt src lw it' sc' → rl_T nc lc gt src lw so fi sp mk (nI T) it' → (∀ d, d < 32 → bt tc' d = false → bt tc d = false ∧ ∀ j, j < nc → bt (wa j) d = true → it' j = it j) → wpX_settle post ((nI A), (nI nc), (nI lc), (nI dc), (nI ec), (nI dp), hsm, mk, 0, tc', mv, (nI T), ws, wd, so, fi, sp, sc', ip, it', fl, wa, lg, lw, ln, pr, pe, am, xr, xf, st, ba, wt, ki, ow, su, dl, da, ch, di)) :
    ∀ (n k : Nat) (d1 : Int32), k ≤ nc → nc < n + k → (∀ j, j < k → so j = 0 → fi j = nI s → bt d1 j = true) → wX_mark_47 post (nI s) (nI A) (nI nc) (nI lc) (nI dc) (nI ec) (nI dp) hsm mk tc mv (nI T) ws wd so fi sp sc ip it fl wa lg lw ln pr pe am xr xf st ba wt ki ow su dl da ch di n (nI k) d1 := by
  have hnc := hN.1
  intro n
  induction n with
  | zero => intro k d1 h1 h2; exact absurd h1 (by omega)
  | succ n ih =>
    intro k d1 hk hn hd
    by_cases hkn : k = nc
    · subst hkn
      refine br_t (nI_le (Nat.le_refl _) (by omega)) (xn_prop hnc (yn_win hN) hG hS (fun j hj => nh_T01 hTb hj) (fun j hj hb => ?_) (fun it' sc' tc' h1 h2 h3 => K it' sc' tc' h1 h2 h3))
      rw [ma_v hj hN hm (fun w => by rw [hd j hj w.1 w.2] at hb; exact absurd hb (by decide))]
      exact hTb j hj
    · have hk2 : k < nc := by omega
      have c : (nI k).toNatClampNeg = k := nI_clamp (by omega)
      have ik : vp_in (nI k) 24 := vp_in_nI (by omega) (by omega)
      refine br_f (nI_ge (by omega) (by omega)) (And.intro ik ?_)
      rw [c]
      refine br_c (fun z0 => And.intro ik (br_c (fun z1 => nm_e (nm_r (nI_1 k) (ih (k + 1) _ (by omega) (by omega) (fun j hj h1 h2 => ?_)))) (fun z1 => nm_r (nI_1 k) (ih (k + 1) d1 (by omega) (by omega) (fun j hj h1 h2 => ?_))))) (fun z0 => nm_r (nI_1 k) (ih (k + 1) d1 (by omega) (by omega) (fun j hj h1 h2 => ?_)))
      · rw [eb_set d1 (by omega) (by omega)]
        by_cases q : j = k
        · rw [decide_eq_true q, Bool.or_true]
        · rw [hd j (by omega) h1 h2]; rfl
      · by_cases q : j = k
        · rw [q] at h2; exact absurd h2 z1
        · exact hd j (by omega) h1 h2
      · by_cases q : j = k
        · rw [q] at h1; exact absurd h1 z0
        · exact hd j (by omega) h1 h2
theorem i_vc_mark {k : Nat} {u : SX} {v : SY} (I : i_Rel k u v) (hk : k + 4 ≤ 2049) (v1 : Int32) (v2 : Int32) : wpX_mark (fun r u' => wpY_mark (fun r' v' => r' = r ∧ i_Rel (k + 4) u' v') v v1 v2) u v1 v2 := by
  refine rl_el (P := fun u v => wpX_mark (fun r u' => wpY_mark (fun r' v' => r' = r ∧ i_Rel (k + 4) u' v') v v1 v2) u v1 v2) ?_ I
  intro A nc lc dc ec dp T hsm mk tc mv ws wd so fi sp sc ip it fl wa lg lw ln pr pe am xr xf st ba wt ki ow su dl da ch di md iN iW nw yr yf ni gt src hT hN hM hL hI hTb hS hD hW hC hV hH hK hE hR hs0 hw0
  have R0 : i_Rel (k + 4) ((nI A), (nI nc), (nI lc), (nI dc), (nI ec), (nI dp), hsm, mk, 0, tc, mv, (nI T), ws, wd, so, fi, sp, sc, ip, it, fl, wa, lg, lw, ln, pr, pe, am, xr, xf, st, ba, wt, ki, ow, su, dl, da, ch, di) ((nI A), (nI T), (nI nc), (nI dc), (nI dp), (nI ec), ba, md, so, fi, sp, ip, iN, iW, nw, pr, pe, am, yr, yf, st, ki, ow, su, dl, da) := rl_in hT hN hM hL hI hTb hS hD hW hC hV hH hK hE hR hs0 hw0
  have hnc := hN.1
  have hG := hL.2.2.2
  by_cases h0 : v1 < 0
  · exact br_t h0 (br_t h0 ⟨rfl, R0⟩)
  · by_cases h7 : v1 ≤ 7
    · obtain ⟨s, hs, rfl⟩ := nI_of2 (n := 7) (by decide) h0 h7
      have is : vp_in (nI s) 8 := vp_in_nI (by omega) (by omega)
      have cs : (nI s).toNatClampNeg = s := nI_clamp (by omega)
      by_cases h2 : v2 = 0
      · have hm1 : ∀ i, i < 8 → i ≠ s → bt (mk &&& (((1 : Int32) <<< (nI s &&& 31)) ^^^ (-1))) i = bt mk i := by
          intro i hi hne
          rw [eb_clr mk (by omega) (by omega), decide_eq_false hne, Bool.not_false, Bool.and_true]
        have hM' : rl_M (mk &&& (((1 : Int32) <<< (nI s &&& 31)) ^^^ (-1))) (upd md s 0) := by
          intro i hi
          by_cases q : i = s
          · rw [q, pk_us, eb_clr mk (by omega) (by omega), decide_eq_true rfl, Bool.not_true, Bool.and_false]; rfl
          · rw [pk_un q, hm1 i hi q]; exact hM i hi
        refine br_f h0 (br_t h7 (br_t h2 (nm_e (Exists.intro (nc + 1) (ma_l (m0 := mk) (by omega) hm1 hN hG hS hTb (fun it' sc' tc' q1 q2 q3 => ?_) (nc + 1) 0 0 (by omega) (by omega) (fun j h => absurd h (by omega)))))))
        refine sm_settle (s := False) (w := False) (nw := nw) hT hN hM' hL hI q2 q1 hD hW hC (li_V hD hnc hC hV q3) hH hK hE hR (fun h => absurd h id) (fun h => absurd h id) (fun r u' v' hU hY => ?_)
        refine br_f h0 (br_t h7 (br_t h2 (And.intro is (nm_r (e' := upd md s 0) (by rw [cs, en_b0]) (hY _ (And.intro rfl (rl_we id (fun h => absurd h id) hU)))))))
      · have hm1 : ∀ i, i < 8 → i ≠ s → bt (mk ||| ((1 : Int32) <<< (nI s &&& 31))) i = bt mk i := by
          intro i hi hne
          rw [eb_set mk (by omega) (by omega), decide_eq_false hne, Bool.or_false]
        have hM' : rl_M (mk ||| ((1 : Int32) <<< (nI s &&& 31))) (upd md s 1) := by
          intro i hi
          by_cases q : i = s
          · rw [q, pk_us, eb_set mk (by omega) (by omega), decide_eq_true rfl, Bool.or_true]; rfl
          · rw [pk_un q, hm1 i hi q]; exact hM i hi
        refine br_f h0 (br_t h7 (br_f h2 (nm_e (Exists.intro (nc + 1) (ma_l (m0 := mk) (by omega) hm1 hN hG hS hTb (fun it' sc' tc' q1 q2 q3 => ?_) (nc + 1) 0 0 (by omega) (by omega) (fun j h => absurd h (by omega)))))))
        refine sm_settle (s := False) (w := False) (nw := nw) hT hN hM' hL hI q2 q1 hD hW hC (li_V hD hnc hC hV q3) hH hK hE hR (fun h => absurd h id) (fun h => absurd h id) (fun r u' v' hU hY => ?_)
        refine br_f h0 (br_t h7 (br_f h2 (And.intro is (nm_r (e' := upd md s 1) (by rw [cs, en_b1]) (hY _ (And.intro rfl (rl_we id (fun h => absurd h id) hU)))))))
    · exact br_f h0 (br_f h7 (br_f h0 (br_f h7 ⟨rfl, R0⟩)))
end MA
end
section
section AD
variable {A nc lc dc ec dp T : Nat} {hsm mk dy tc mv ws wd : Int32} {so fi sp sc ip it fl wa lg lw ln pr pe am xr xf st ba wt ki ow su dl da ch di md iN iW nw yr yf : Nat → Int32} {ni gt src : Nat → Nat}
/-- days on which nothing turns: the reference settles and nothing moves -/
theorem ad_idle {D b0 : Nat} (hN : rl_N nc so fi sp) (hM : rl_M mk md) (hL : rl_L nc lc ni gt src ip fl lg ln) (hI : rl_I lc ni gt src lw iN iW) (hTb : rl_T nc lc gt src lw so fi sp mk (nI T) it) (hD : rl_D A nc dc pr pe am xr xf st yr yf) (hset : ∀ d, d < dc → ¬ dl_c st pr am ba xr xf it d) (hz : ∀ k, k < nc → rl_Z so fi sp mk T b0 k) (hD2 : D < 2000) :
    ∀ (j : Nat), T + j < b0 → T + j ≤ 2000 → ∃ nw1 : Nat → Int32, ∀ (postY : Int32 → SY → Prop) (n c : Nat) (b : Int32), c + j ≤ D → wY_advance_32 postY (nI D) n b (nI (c + j)) (nI A) (nI (T + j)) (nI nc) (nI dc) (nI dp) (nI ec) ba md so fi sp ip iN iW nw1 pr pe am yr yf st ki ow su dl da → wY_advance_32 postY (nI D) (n + j) b (nI c) (nI A) (nI T) (nI nc) (nI dc) (nI dp) (nI ec) ba md so fi sp ip iN iW nw pr pe am yr yf st ki ow su dl da := by
  have hG := hL.2.2.2
  have hnc := hN.1
  intro j
  induction j with
  | zero => intro _ _; exact ⟨nw, fun postY n c b _ h => h⟩
  | succ j ih =>
    intro hj h2
    obtain ⟨nw1, h1⟩ := ih (by omega) (by omega)
    obtain ⟨nw2, t2, hY0⟩ := yn_work (A := A) (dc := dc) (dp := dp) (ec := ec) (ba := ba) (pr := pr) (pe := pe) (am := am) (yr := yr) (yf := yf) (st := st) (ki := ki) (ow := ow) (su := su) (dl := dl) (da := da) (T := T + j + 1) (nw := nw1) (day := T + j + 1) (by omega) hN hM hL.1 hI (fun e he => (hG.2.1 e he).2.1)
    have hw2 := nh_uq (fun e he => (hG.2.1 e he).2.1) t2 (dy_T hTb hz (t := T + j + 1) (by omega) (by omega))
    refine ⟨nw2, fun postY n c b hc h => ?_⟩
    have := h1 postY (n + 1) c b (by omega) (br_f (nI_ge (by omega) (by omega)) (nm_r (nI_1 (T + j)) (hY0 _ (Exists.intro 25 (sm_idle (b := 0) hD hnc hw2 hset (nm_r (e' := b) (Int32.add_zero b) (nm_r (nI_1 (c + j)) h)) 25 0 (by omega) (by omega))))))
    rw [show n + (j + 1) = n + 1 + j by omega]
    exact this
def ad_X (post : Int32 → SX → Prop) (tg : Int32) (n : Nat) (x3 x4 r : Int32) (u : SX) : Prop := match u with
  | (y1, y2, y3, y4, y5, y6, y7, y8, y9, y10, y11, y12, y13, y14, y15, y16, y17, y18, y19, y20, y21, y22, y23, y24, y25, y26, y27, y28, y29, y30, y31, y32, y33, y34, y35, y36, y37, y38, y39, y40) => ∀ z3 : Int32, z3 = x3 + r → ∀ z4 : Int32, z4 = x4 + 1 → wX_advance_40 post tg n z3 z4 y1 y2 y3 y4 y5 y6 y7 y8 y9 y10 y11 y12 y13 y14 y15 y16 y17 y18 y19 y20 y21 y22 y23 y24 y25 y26 y27 y28 y29 y30 y31 y32 y33 y34 y35 y36 y37 y38 y39 y40
theorem ad_E {T1 : Nat} (hE : rl_E A T ec ow su da) (h : T ≤ T1) : rl_E A T1 ec ow su da := by
  refine ⟨fun i hi => ?_, hE.2⟩
  obtain ⟨h1, h2, t, h3, h4⟩ := hE.1 i hi
  exact ⟨h1, h2, t, by omega, h4⟩
set_option maxHeartbeats 1000000 in
theorem ad_lp {post : Int32 → SX → Prop} {tg D : Nat} (htg : tg ≤ 2000) (hD2 : D ≤ 60) : ∀ (m : Nat), ∀ (A nc lc dc ec dp T : Nat) (hsm mk tc mv ws wd : Int32) (so fi sp sc ip it fl wa lg lw ln pr pe am xr xf st ba wt ki ow su dl da ch di md iN iW nw yr yf : Nat → Int32) (ni gt src : Nat → Nat), ∀ (s w : Prop) (hT : T ≤ 2000) (hN : rl_N nc so fi sp) (hM : rl_M mk md) (hL : rl_L nc lc ni gt src ip fl lg ln) (hI : rl_I lc ni gt src lw iN iW) (hTb : rl_T nc lc gt src lw so fi sp mk (nI T) it) (hS : rl_S lc gt src lw it sc) (hD : rl_D A nc dc pr pe am xr xf st yr yf) (hW : rl_W dc pr st wt) (hC : rl_C dc xr xf wa) (hV : rl_V dc mv tc (dl_c st pr am ba xr xf it)) (hH : rl_H dc st am hsm) (hK : rl_K dc dp ec st) (hE : rl_E A T ec ow su da) (hR : rl_R (en_F ki ow su ec) ch di) (hs0 : (s → ∀ d, d < dc → ¬ dl_c st pr am ba xr xf it d)) (hw0 : (w → ∀ k, k < nc → nw k = it k)), s → ∀ (b : Int32) (q n : Nat), T + m = tg → m ≤ D → q + m ≤ 60 → m < n →
      (∀ (r : Int32) (u' : SX) (v' : SY), rl_U True False u' v' → (∀ postY : Int32 → SY → Prop, postY r v' → wY_advance_32 postY (nI D) (m + 1) b (nI (D - m)) (nI A) (nI T) (nI nc) (nI dc) (nI dp) (nI ec) ba md so fi sp ip iN iW nw pr pe am yr yf st ki ow su dl da) → post r u') →
      wX_advance_40 post (nI tg) n b (nI q) (nI A) (nI nc) (nI lc) (nI dc) (nI ec) (nI dp) hsm mk 0 tc mv (nI T) ws wd so fi sp sc ip it fl wa lg lw ln pr pe am xr xf st ba wt ki ow su dl da ch di := by
  intro m
  induction m using Nat.strongRecOn with
  | _ m ih =>
    intro A nc lc dc ec dp T hsm mk tc mv ws wd so fi sp sc ip it fl wa lg lw ln pr pe am xr xf st ba wt ki ow su dl da ch di md iN iW nw yr yf ni gt src s w hT hN hM hL hI hTb hS hD hW hC hV hH hK hE hR hs0 hw0 hs b q n hTm hmD hq hn K
    have hset := hs0 hs
    have hG := hL.2.2.2
    have hnc := hN.1
    obtain ⟨n, rfl⟩ : ∃ n', n = n' + 1 := ⟨n - 1, by omega⟩
    by_cases q60 : q = 60
    · have hm0 : m = 0 := by omega
      subst hm0
      have e : tg = T := by omega
      subst e
      refine br_t (nI_le (a := 60) (by omega) (by omega)) (K b _ ((nI A), (nI tg), (nI nc), (nI dc), (nI dp), (nI ec), ba, md, so, fi, sp, ip, iN, iW, nw, pr, pe, am, yr, yf, st, ki, ow, su, dl, da) (rl_in hT hN hM hL hI hTb hS hD hW hC hV hH hK hE hR (fun _ => hset) (fun h => absurd h id)) (fun postY hp => br_t (nI_le (by omega) (by omega)) hp))
    · refine br_f (nI_ge (b := 60) (by omega) (by decide)) (dy_nc (by omega) hN (fun R r1 r2 hz => pk_le R tg (fun g => ?_) (fun g => ?_)))
      · obtain ⟨nw1, hY1⟩ := ad_idle (A := A) (dc := dc) (dp := dp) (ec := ec) (nw := nw) (b0 := R) (D := D) (ki := ki) (ow := ow) (su := su) (dl := dl) (da := da) hN hM hL hI hTb hD hset hz (by omega) (R - 1 - T) (by omega) (by omega)
        rw [show T + (R - 1 - T) = R - 1 by omega] at hY1
        refine dy_go hN hG hS hTb (fun it' sc' tc' q1 q2 q3 => ?_)
        refine sm_settle2 (s := False) (w := False) (nw := nw1) (T := R) (by omega) hN hM hL hI q2 q1 hD hW hC (li_V hD hnc hC hV q3) hH hK (ad_E hE (by omega)) hR (fun h => absurd h id) (fun h => absurd h id) (fun r u' v' hU ht hY => ?_)
        refine rl_el (P := fun u v => sm_t u = nI R → (∀ postY : Int32 → SY → Prop, postY r v → wpY_settle postY ((nI A), (nI R), (nI nc), (nI dc), (nI dp), (nI ec), ba, md, so, fi, sp, ip, iN, iW, nw1, pr, pe, am, yr, yf, st, ki, ow, su, dl, da)) → ad_X post (nI tg) n b (nI q) r u) ?_ hU ht hY
        clear ht hY hU
        intro A1 nc1 lc1 dc1 ec1 dp1 T1 hsm1 mk1 tc1 mv1 ws1 wd1 so1 fi1 sp1 sc1 ip1 it1 fl1 wa1 lg1 lw1 ln1 pr1 pe1 am1 xr1 xf1 st1 ba1 wt1 ki1 ow1 su1 dl1 da1 ch1 di1 md1 iN1 iW1 nw2 yr1 yf1 ni1 gt1 src1 hT1 hN1 hM1 hL1 hI1 hTb1 hS1 hD1 hW1 hC1 hV1 hH1 hK1 hE1 hR1 hs1 hw1 ht hY
        have hTR : T1 = R := en_im (show nI T1 = nI R from ht) (by omega) (by omega)
        refine nm_e (nm_r (nI_1 q) (ih (tg - R) (by omega) A1 nc1 lc1 dc1 ec1 dp1 T1 hsm1 mk1 tc1 mv1 ws1 wd1 so1 fi1 sp1 sc1 ip1 it1 fl1 wa1 lg1 lw1 ln1 pr1 pe1 am1 xr1 xf1 st1 ba1 wt1 ki1 ow1 su1 dl1 da1 ch1 di1 md1 iN1 iW1 nw2 yr1 yf1 ni1 gt1 src1 True True hT1 hN1 hM1 hL1 hI1 hTb1 hS1 hD1 hW1 hC1 hV1 hH1 hK1 hE1 hR1 hs1 hw1 trivial (b + r) (q + 1) n (by omega) (by omega) (by omega) (by omega) (fun r2 u2 v2 hU2 hY2 => K r2 u2 v2 hU2 (fun postY hp => ?_))))
        have st0 := hY1 postY (tg - R + 1 + 1) (D - m) b (by omega) (br_f (nI_ge (by omega) (by omega)) (nm_r (e' := nI R) (by rw [nI_1]; congr 1; omega) (hY _ (nm_e (nm_r (e' := nI (D - (tg - R))) (by rw [nI_1]; congr 1; omega) (hY2 postY hp))))))
        rw [show tg - R + 1 + 1 + (R - 1 - T) = m + 1 by omega] at st0
        exact st0
      · obtain ⟨nw1, hY1⟩ := ad_idle (A := A) (dc := dc) (dp := dp) (ec := ec) (nw := nw) (b0 := R) (D := D) (ki := ki) (ow := ow) (su := su) (dl := dl) (da := da) hN hM hL hI hTb hD hset hz (by omega) m (by omega) (by omega)
        rw [hTm] at hY1
        refine K b _ ((nI A), (nI tg), (nI nc), (nI dc), (nI dp), (nI ec), ba, md, so, fi, sp, ip, iN, iW, nw1, pr, pe, am, yr, yf, st, ki, ow, su, dl, da) (rl_in (T := tg) htg hN hM hL hI (dy_T hTb hz (by omega) g) hS hD hW hC hV hH hK (ad_E hE (by omega)) hR (fun _ => hset) (fun h => absurd h id)) (fun postY hp => ?_)
        have st0 := hY1 postY 1 (D - m) b (by omega) (br_t (nI_le (by omega) (by omega)) hp)
        rw [show 1 + m = m + 1 by omega] at st0
        exact st0
theorem i_vc_advance {k : Nat} {u : SX} {v : SY} (I : i_Rel k u v) (hk : k + 4 ≤ 2049) (v1 : Int32) : wpX_advance (fun r u' => wpY_advance (fun r' v' => r' = r ∧ i_Rel (k + 4) u' v') v v1) u v1 := by
  refine rl_el (P := fun u v => wpX_advance (fun r u' => wpY_advance (fun r' v' => r' = r ∧ i_Rel (k + 4) u' v') v v1) u v1) ?_ I
  intro A nc lc dc ec dp T hsm mk tc mv ws wd so fi sp sc ip it fl wa lg lw ln pr pe am xr xf st ba wt ki ow su dl da ch di md iN iW nw yr yf ni gt src hT hN hM hL hI hTb hS hD hW hC hV hH hK hE hR hs0 hw0
  have R0 : i_Rel (k + 4) ((nI A), (nI nc), (nI lc), (nI dc), (nI ec), (nI dp), hsm, mk, 0, tc, mv, (nI T), ws, wd, so, fi, sp, sc, ip, it, fl, wa, lg, lw, ln, pr, pe, am, xr, xf, st, ba, wt, ki, ow, su, dl, da, ch, di) ((nI A), (nI T), (nI nc), (nI dc), (nI dp), (nI ec), ba, md, so, fi, sp, ip, iN, iW, nw, pr, pe, am, yr, yf, st, ki, ow, su, dl, da) := rl_in hT hN hM hL hI hTb hS hD hW hC hV hH hK hE hR hs0 hw0
  by_cases h1 : v1 < 1
  · exact br_t h1 (br_t h1 ⟨rfl, R0⟩)
  · by_cases h2 : v1 ≤ 60
    · have n1 : ¬ v1 < 0 := by
        have e1 : (1 : Int32).toInt = 1 := by decide
        have e0 : (0 : Int32).toInt = 0 := by decide
        rw [Int32.lt_iff_toInt_lt] at h1 ⊢; omega
      obtain ⟨D, hD1, rfl⟩ := nI_of2 (n := 60) (by decide) n1 h2
      have ea : nI T + nI D = nI (T + D) := nI_add _ _
      by_cases h3 : T + D ≤ 2000
      · have g : nI T + nI D ≤ 2000 := by rw [ea]; exact nI_le (b := 2000) h3 (by decide)
        refine br_f h1 (br_t h2 (br_t g (nm_r ea (Exists.intro (D + 1) ?_))))
        refine ad_lp (tg := T + D) (D := D) h3 hD1 D A nc lc dc ec dp T hsm mk tc mv ws wd so fi sp sc ip it fl wa lg lw ln pr pe am xr xf st ba wt ki ow su dl da ch di md iN iW nw yr yf ni gt src True False hT hN hM hL hI hTb hS hD hW hC hV hH hK hE hR hs0 hw0 trivial 0 0 (D + 1) rfl (Nat.le_refl _) (by omega) (by omega) (fun r u' v' hU hY => ?_)
        rw [Nat.sub_self] at hY
        exact br_f h1 (br_t h2 (br_t g (Exists.intro (D + 1) (hY _ (And.intro rfl hU)))))
      · have g : ¬ nI T + nI D ≤ 2000 := by rw [ea]; exact nI_ge (a := 2000) (by omega) (by omega)
        exact br_f h1 (br_t h2 (br_f g (br_f h1 (br_t h2 (br_f g ⟨rfl, R0⟩)))))
    · exact br_f h1 (br_f h2 (br_f h1 (br_f h2 ⟨rfl, R0⟩)))
end AD
end
section
section FO
variable {A nc lc dc ec dp T : Nat} {hsm mk dy tc mv ws wd : Int32} {so fi sp sc ip it fl wa lg lw ln pr pe am xr xf st ba wt ki ow su dl da ch di md iN iW nw yr yf : Nat → Int32} {ni gt src : Nat → Nat}
theorem fo_idle {nd t b0 : Nat} (hnd : nd < nc) (hT2 : T + 201 < 100000) (hN : rl_N nc so fi sp) (hM : rl_M mk md) (hL : rl_L nc lc ni gt src ip fl lg ln) (hI : rl_I lc ni gt src lw iN iW) (hTb : rl_T nc lc gt src lw so fi sp mk (nI t) it) (hz : ∀ k, k < nc → rl_Z so fi sp mk t b0 k) (h0 : it nd = 0) (hTt : T ≤ t) :
    ∀ (j : Nat), t + j ≤ b0 → t + j ≤ T + 201 → ∃ nw1 : Nat → Int32, ∀ (postY : Int32 → SY → Prop) (n : Nat), wY_forecast_26 postY (nI nd) n (nI (t - T + j)) (nI A) (nI T) (nI nc) (nI dc) (nI dp) (nI ec) ba md so fi sp ip iN iW nw1 pr pe am yr yf st ki ow su dl da → wY_forecast_26 postY (nI nd) (n + j) (nI (t - T)) (nI A) (nI T) (nI nc) (nI dc) (nI dp) (nI ec) ba md so fi sp ip iN iW nw pr pe am yr yf st ki ow su dl da := by
  have hG := hL.2.2.2
  have hnc := hN.1
  intro j
  induction j with
  | zero => intro _ _; exact ⟨nw, fun postY n h => h⟩
  | succ j ih =>
    intro hj h2
    obtain ⟨nw1, h1⟩ := ih (by omega) (by omega)
    obtain ⟨nw2, t2, hY0⟩ := yn_work (A := A) (dc := dc) (dp := dp) (ec := ec) (ba := ba) (pr := pr) (pe := pe) (am := am) (yr := yr) (yf := yf) (st := st) (ki := ki) (ow := ow) (su := su) (dl := dl) (da := da) (T := T) (nw := nw1) (day := t + j) (by omega) hN hM hL.1 hI (fun e he => (hG.2.1 e he).2.1)
    have hw2 := nh_uq (fun e he => (hG.2.1 e he).2.1) t2 (dy_T hTb hz (t := t + j) (by omega) (by omega))
    have cn : (nI nd).toNatClampNeg = nd := nI_clamp (by omega)
    have ea : nI T + nI (t - T + j) = nI (t + j) := by rw [nI_add]; congr 1; omega
    refine ⟨nw2, fun postY n h => ?_⟩
    have := h1 postY (n + 1) (br_f (nI_nlt (a := 200) (by omega) (by decide)) (by
      rw [ea]
      refine hY0 _ (And.intro (vp_in_nI (by omega) (by omega)) ?_)
      rw [cn]
      exact br_t (by rw [hw2 nd hnd]; exact h0) (nm_r (nI_1 _) h)))
    rw [show n + (j + 1) = n + 1 + j by omega]
    exact this
set_option maxHeartbeats 1000000 in
theorem fo_lp {post : Int32 → SX → Prop} {nd : Nat} (hnd : nd < nc) (hT : T ≤ 2000) (hN : rl_N nc so fi sp) (hM : rl_M mk md) (hL : rl_L nc lc ni gt src ip fl lg ln) (hI : rl_I lc ni gt src lw iN iW) (hD : rl_D A nc dc pr pe am xr xf st yr yf) (hC : rl_C dc xr xf wa) :
    ∀ (m t q n : Nat) (it1 sc1 nw1 : Nat → Int32) (tc1 : Int32), t + m = T + 200 → T ≤ t → q + m ≤ 200 → m < n → rl_T nc lc gt src lw so fi sp mk (nI t) it1 → rl_S lc gt src lw it1 sc1 → rl_V dc mv tc1 (dl_c st pr am ba xr xf it1) →
      (∀ (r : Int32) (it' sc' nw' : Nat → Int32) (tc' : Int32), rl_T nc lc gt src lw so fi sp mk (nI T) it' → rl_S lc gt src lw it' sc' → rl_V dc mv tc' (dl_c st pr am ba xr xf it') → (∀ postY : Int32 → SY → Prop, postY r ((nI A), (nI T), (nI nc), (nI dc), (nI dp), (nI ec), ba, md, so, fi, sp, ip, iN, iW, nw', pr, pe, am, yr, yf, st, ki, ow, su, dl, da) → wY_forecast_26 postY (nI nd) (m + 2) (nI (t - T)) (nI A) (nI T) (nI nc) (nI dc) (nI dp) (nI ec) ba md so fi sp ip iN iW nw1 pr pe am yr yf st ki ow su dl da) → post r ((nI A), (nI nc), (nI lc), (nI dc), (nI ec), (nI dp), hsm, mk, 0, tc', mv, (nI T), ws, wd, so, fi, sp, sc', ip, it', fl, wa, lg, lw, ln, pr, pe, am, xr, xf, st, ba, wt, ki, ow, su, dl, da, ch, di)) →
      wX_forecast_36 post (nI nd) (nI T) (-3) n (nI q) (nI A) (nI nc) (nI lc) (nI dc) (nI ec) (nI dp) hsm mk 0 tc1 mv (nI t) ws wd so fi sp sc1 ip it1 fl wa lg lw ln pr pe am xr xf st ba wt ki ow su dl da ch di := by
  have hG := hL.2.2.2
  have hnc := hN.1
  intro m
  induction m using Nat.strongRecOn with
  | _ m ih =>
    intro t q n it1 sc1 nw1 tc1 hm hTt hq hn hTb hS hV K
    obtain ⟨n, rfl⟩ : ∃ n', n = n' + 1 := ⟨n - 1, by omega⟩
    have cn : (nI nd).toNatClampNeg = nd := nI_clamp (by omega)
    have inn : vp_in (nI nd) 24 := vp_in_nI (by omega) (by omega)
    have e200 : nI T + 200 = nI (T + 200) := nI_add T 200
    refine br_f (nI_ge (b := 201) (by omega) (by decide)) (And.intro inn ?_)
    rw [cn]
    refine br_c (fun z => ?_) (fun z => ?_)
    · refine dy_nc (T := t) (by omega) hN (fun R r1 r2 hz => ?_)
      rw [e200]
      refine pk_le R (T + 200) (fun g => ?_) (fun g => ?_)
      · obtain ⟨nw2, hY1⟩ := fo_idle (A := A) (T := T) (dc := dc) (dp := dp) (ec := ec) (nw := nw1) (ba := ba) (pr := pr) (pe := pe) (am := am) (yr := yr) (yf := yf) (st := st) (ki := ki) (ow := ow) (su := su) (dl := dl) (da := da) (b0 := R) hnd (by omega) hN hM hL hI hTb hz z hTt (R - t) (by omega) (by omega)
        rw [show t - T + (R - t) = R - T by omega] at hY1
        refine dy_go (T := t) hN hG hS hTb (fun it' sc' tc' q1 q2 q3 => ?_)
        refine nm_r (nI_1 q) (ih (T + 200 - R) (by omega) R (q + 1) n it' sc' nw2 tc' (by omega) (by omega) (by omega) (by omega) q2 q1 (li_V hD hnc hC hV q3) (fun r it2 sc2 nw3 tc2 p1 p2 p3 hY2 => K r it2 sc2 nw3 tc2 p1 p2 p3 (fun postY hp => ?_)))
        have st0 := hY1 postY (T + 200 - R + 2) (hY2 postY hp)
        rw [show T + 200 - R + 2 + (R - t) = m + 2 by omega] at st0
        exact st0
      · obtain ⟨nw2, hY1⟩ := fo_idle (A := A) (T := T) (dc := dc) (dp := dp) (ec := ec) (nw := nw1) (ba := ba) (pr := pr) (pe := pe) (am := am) (yr := yr) (yf := yf) (st := st) (ki := ki) (ow := ow) (su := su) (dl := dl) (da := da) (b0 := R) hnd (by omega) hN hM hL hI hTb hz z hTt (m + 1) (by omega) (by omega)
        refine dy_go (T := t) (day := T) hN hG hS hTb (fun it' sc' tc' q1 q2 q3 => ?_)
        refine K (-3) it' sc' nw2 tc' q2 q1 (li_V hD hnc hC hV q3) (fun postY hp => ?_)
        have st0 := hY1 postY 1 (br_t (nI_lt (a := 200) (by omega) (by omega)) hp)
        rw [show 1 + (m + 1) = m + 2 by omega] at st0
        exact st0
    · obtain ⟨nw2, t2, hY0⟩ := yn_work (A := A) (dc := dc) (dp := dp) (ec := ec) (ba := ba) (pr := pr) (pe := pe) (am := am) (yr := yr) (yf := yf) (st := st) (ki := ki) (ow := ow) (su := su) (dl := dl) (da := da) (T := T) (nw := nw1) (day := t) (by omega) hN hM hL.1 hI (fun e he => (hG.2.1 e he).2.1)
      have hw2 := nh_uq (fun e he => (hG.2.1 e he).2.1) t2 hTb
      have ea : nI T + nI (t - T) = nI t := by rw [nI_add]; congr 1; omega
      refine dy_go (T := t) (day := T) hN hG hS hTb (fun it' sc' tc' q1 q2 q3 => ?_)
      refine K (nI t) it' sc' nw2 tc' q2 q1 (li_V hD hnc hC hV q3) (fun postY hp => ?_)
      refine br_f (nI_nlt (a := 200) (by omega) (by decide)) ?_
      rw [ea]
      refine hY0 _ (And.intro inn ?_)
      rw [cn, ea]
      exact br_f (by rw [hw2 nd hnd]; exact z) hp
theorem i_vc_forecast {k : Nat} {u : SX} {v : SY} (I : i_Rel k u v) (hk : k + 4 ≤ 2049) (v1 : Int32) : wpX_forecast (fun r u' => wpY_forecast (fun r' v' => r' = r ∧ i_Rel (k + 4) u' v') v v1) u v1 := by
  refine rl_el (P := fun u v => wpX_forecast (fun r u' => wpY_forecast (fun r' v' => r' = r ∧ i_Rel (k + 4) u' v') v v1) u v1) ?_ I
  intro A nc lc dc ec dp T hsm mk tc mv ws wd so fi sp sc ip it fl wa lg lw ln pr pe am xr xf st ba wt ki ow su dl da ch di md iN iW nw yr yf ni gt src hT hN hM hL hI hTb hS hD hW hC hV hH hK hE hR hs0 hw0
  have R0 : i_Rel (k + 4) ((nI A), (nI nc), (nI lc), (nI dc), (nI ec), (nI dp), hsm, mk, 0, tc, mv, (nI T), ws, wd, so, fi, sp, sc, ip, it, fl, wa, lg, lw, ln, pr, pe, am, xr, xf, st, ba, wt, ki, ow, su, dl, da, ch, di) ((nI A), (nI T), (nI nc), (nI dc), (nI dp), (nI ec), ba, md, so, fi, sp, ip, iN, iW, nw, pr, pe, am, yr, yf, st, ki, ow, su, dl, da) := rl_in hT hN hM hL hI hTb hS hD hW hC hV hH hK hE hR hs0 hw0
  have h12 := hD.1
  have hnc := hN.1
  have hG := hL.2.2.2
  rcases rd_ix v1 (n := dc) (by omega) with h | ⟨d, hd, rfl⟩
  · exact rd_x0 h (br_t rfl (rd_y0 h (br_f en_10 ⟨rfl, R0⟩)))
  · have ii : vp_in (nI d) 12 := vp_in_nI (by omega) (by omega)
    have c : (nI d).toNatClampNeg = d := nI_clamp (by omega)
    obtain ⟨_, _, _, y1, _, hx⟩ := hD.2.2.1 d hd
    refine rd_x1 hd (by omega) (br_f en_10 (And.intro ii ?_))
    rw [c]
    rcases hx with ⟨e1, _⟩ | ⟨nd, f, hnd, hf, e1, _⟩
    · rw [e1]
      refine nm_e (br_f (by decide) (rd_y1 12 hd h12 (by omega) (br_t rfl (And.intro ii ?_))))
      rw [c, y1, e1]
      exact nm_e (br_f (by decide) ⟨rfl, R0⟩)
    · rw [e1]
      have g0 : (0 : Int32) ≤ nI nd := nI_pos' (by omega)
      refine nm_e (br_t g0 (Exists.intro 201 (fo_lp hnd hT hN hM hL hI hD hC 200 T 0 201 it sc nw tc rfl (Nat.le_refl _) (by omega) (by omega) hTb hS hV (fun r it' sc' nw' tc' p1 p2 p3 hY => ?_))))
      have heq := nh_uq (fun e he => (hG.2.1 e he).2.1) p1 hTb
      have R1 : i_Rel (k + 4) ((nI A), (nI nc), (nI lc), (nI dc), (nI ec), (nI dp), hsm, mk, 0, tc', mv, (nI T), ws, wd, so, fi, sp, sc', ip, it', fl, wa, lg, lw, ln, pr, pe, am, xr, xf, st, ba, wt, ki, ow, su, dl, da, ch, di) ((nI A), (nI T), (nI nc), (nI dc), (nI dp), (nI ec), ba, md, so, fi, sp, ip, iN, iW, nw', pr, pe, am, yr, yf, st, ki, ow, su, dl, da) := rl_in hT hN hM hL hI p1 p2 hD hW hC p3 hH hK hE hR (fun _ e he z => hs0 trivial e he ((dl_ci hD hnc he heq).mp z)) (fun h => absurd h id)
      refine rd_y1 12 hd h12 (by omega) (br_t rfl (And.intro ii ?_))
      rw [c, y1, e1]
      rw [Nat.sub_self] at hY
      exact nm_e (br_t g0 (Exists.intro 202 (hY _ (And.intro rfl R1))))
end FO
end
