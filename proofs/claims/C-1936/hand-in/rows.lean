section
/-! rows of kit/rows, pasted (starting text) -/
theorem pk_us {f : Nat → Int32} {k : Nat} {x : Int32} : upd f k x k = x := if_pos rfl
theorem pk_un {f : Nat → Int32} {k j : Nat} {x : Int32} (h : j ≠ k) : upd f k x j = f j := if_neg h
theorem pk_uLs {f : Nat → Int64} {k : Nat} {x : Int64} : vp_updL f k x k = x := if_pos rfl
theorem pk_uLn {f : Nat → Int64} {k j : Nat} {x : Int64} (h : j ≠ k) : vp_updL f k x j = f j := if_neg h
theorem pk_sub {a b : Nat} (h : b ≤ a) : nI a - nI b = nI (a - b) := by
  obtain ⟨c, rfl⟩ : ∃ c, a = c + b := ⟨a - b, by omega⟩
  rw [← nI_add, Int32.add_sub_cancel, Nat.add_sub_cancel]
theorem pk_m1 (n : Nat) : nI (n + 1) + (-1) = nI n := by
  rw [← nI_1, Int32.add_assoc, show (1 : Int32) + (-1) = 0 from rfl, Int32.add_zero]
theorem pk_mul (a b : Nat) : nI a * nI b = nI (a * b) := (Int32.ofNat_mul a b).symm
theorem pk_le {x y : Int32} {A B : Prop} (a b : Nat) (f : a ≤ b → A) (g : b < a → B) (hx : x = nI a := by rfl) (hy : y = nI b := by rfl) (ha : a < 2 ^ 31 := by omega) (hb : b < 2 ^ 31 := by omega) : (x ≤ y → A) ∧ (¬ x ≤ y → B) := by
  subst hx hy
  rw [nI_leI ha hb]
  exact ⟨f, fun z => g (by omega)⟩
theorem pk_lt {x y : Int32} {A B : Prop} (a b : Nat) (f : a < b → A) (g : b ≤ a → B) (hx : x = nI a := by rfl) (hy : y = nI b := by rfl) (ha : a < 2 ^ 31 := by omega) (hb : b < 2 ^ 31 := by omega) : (x < y → A) ∧ (¬ x < y → B) := by
  subst hx hy
  rw [nI_ltI ha hb]
  exact ⟨f, fun z => g (by omega)⟩
theorem pk_eq {x y : Int32} {A B : Prop} (a b : Nat) (f : a = b → A) (g : a ≠ b → B) (hx : x = nI a := by rfl) (hy : y = nI b := by rfl) (ha : a < 2 ^ 31 := by omega) (hb : b < 2 ^ 31 := by omega) : (x = y → A) ∧ (¬ x = y → B) := by
  subst hx hy
  rw [nI_eq ha hb]
  exact ⟨f, g⟩
theorem pk_in {x : Int32} (n N : Nat) (h : n < N) (hx : x = nI n := by rfl) (hN : N < 2 ^ 31 := by omega) : vp_in x N := by
  subst hx
  exact vp_in_nI h hN
theorem pk_cl {x : Int32} (n : Nat) (hx : x = nI n := by rfl) (h : n < 2 ^ 31 := by omega) : x.toNatClampNeg = n := by
  subst hx
  exact nI_clamp h
theorem pk_sub_toInt {a b : Nat} (ha : a < 2 ^ 30) (hb : b < 2 ^ 30) : (nI a - nI b).toInt = (a : Int) - b := by
  rw [Int32.toInt_sub, nI_toInt (by omega), nI_toInt (by omega)]
  exact Int.bmod_eq_of_le (by omega) (by omega)
theorem pk_tn {n : Nat} (h : n < 2 ^ 32) : (nI n).toBitVec.toNat = n := Nat.mod_eq_of_lt h
theorem pk_and (x : Int32) {m : Int32} (k : Nat) (hm : m.toBitVec.toNat = 2 ^ k - 1) : x &&& m = nI (x.toBitVec.toNat % 2 ^ k) := by
  apply Int32.toBitVec_inj.mp
  apply BitVec.eq_of_toNat_eq
  rw [Int32.toBitVec_and, BitVec.toNat_and, hm, Nat.and_two_pow_sub_one_eq_mod]
  show _ = (BitVec.ofNat 32 _).toNat
  rw [BitVec.toNat_ofNat]
  exact (Nat.mod_eq_of_lt (Nat.lt_of_le_of_lt (Nat.mod_le _ _) x.toBitVec.isLt)).symm
def bt (x : Int32) (i : Nat) : Bool := x.toBitVec.getLsbD i
theorem b_ext {x y : Int32} (h : ∀ i, i < 32 → bt x i = bt y i) : x = y := Int32.toBitVec_inj.mp (BitVec.eq_of_getLsbD_eq (fun i hi => h i hi))
theorem b_or (x y : Int32) (i : Nat) : bt (x ||| y) i = (bt x i || bt y i) := by unfold bt; rw [Int32.toBitVec_or, BitVec.getLsbD_or]
theorem b_and (x y : Int32) (i : Nat) : bt (x &&& y) i = (bt x i && bt y i) := by unfold bt; rw [Int32.toBitVec_and, BitVec.getLsbD_and]
theorem b_xor (x y : Int32) (i : Nat) : bt (x ^^^ y) i = (bt x i ^^ bt y i) := by unfold bt; rw [Int32.toBitVec_xor, BitVec.getLsbD_xor]
theorem b_big {x : Int32} {i : Nat} (h : 32 ≤ i) : bt x i = false := BitVec.getLsbD_of_ge _ _ h
theorem b_65535 (i : Nat) : bt 65535 i = decide (i < 16) := by
  rcases Nat.lt_or_ge i 32 with h | h
  · exact (by decide +kernel : ∀ i, i < 32 → bt 65535 i = decide (i < 16)) i h
  · rw [b_big h, decide_eq_false (by omega)]
theorem b_0 (i : Nat) : bt 0 i = false := BitVec.getLsbD_zero
theorem s_l : ∀ n, n < 32 → ((nI n &&& 31).toBitVec.smod 32).toNat = n := by decide +kernel
theorem s_u : ∀ n, n < 32 → (((nI n).toUInt32 &&& Int32.toUInt32 31).toBitVec % 32).toNat = n := by decide +kernel
theorem b_shl (n : Nat) (hn : n < 32) (x : Int32) {i : Nat} (hi : i < 32) : bt (x <<< (nI n &&& 31)) i = (decide (n ≤ i) && bt x (i - n)) := by
  unfold bt
  rw [Int32.toBitVec_shiftLeft]
  show (x.toBitVec <<< ((nI n &&& 31).toBitVec.smod 32).toNat).getLsbD i = _
  rw [s_l n hn, BitVec.getLsbD_shiftLeft]
  rcases Nat.lt_or_ge i n with h | h
  · simp [h, Nat.not_le.mpr h]
  · simp [hi, h, Nat.not_lt.mpr h]
theorem b_ushr (n : Nat) (hn : n < 32) (x : Int32) (i : Nat) : bt ((x.toUInt32 >>> ((nI n).toUInt32 &&& Int32.toUInt32 31)).toInt32) i = bt x (n + i) := by
  show (x.toUInt32 >>> ((nI n).toUInt32 &&& Int32.toUInt32 31)).toBitVec.getLsbD i = x.toUInt32.toBitVec.getLsbD (n + i)
  rw [UInt32.toBitVec_shiftRight]
  show (x.toUInt32.toBitVec >>> (((nI n).toUInt32 &&& Int32.toUInt32 31).toBitVec % 32).toNat).getLsbD i = _
  rw [s_u n hn, BitVec.getLsbD_ushiftRight]
theorem b_sshr (n : Nat) (hn : n < 32) (x : Int32) {i : Nat} (hi : i < 32) : bt (x >>> (nI n &&& 31)) i = if n + i < 32 then bt x (n + i) else bt x 31 := by
  unfold bt
  rw [Int32.toBitVec_shiftRight]
  show (x.toBitVec.sshiftRight ((nI n &&& 31).toBitVec.smod 32).toNat).getLsbD i = _
  rw [s_l n hn, BitVec.getLsbD_sshiftRight, BitVec.msb_eq_getLsbD_last]
  simp [hi]
theorem nx_and (a b : Nat) : nI a &&& nI b = nI (a &&& b) := by
  apply Int32.toBitVec_inj.1
  show BitVec.ofNat 32 a &&& BitVec.ofNat 32 b = BitVec.ofNat 32 (a &&& b)
  apply BitVec.eq_of_getLsbD_eq
  intro i hi
  simp [hi]
theorem nx_xor (a b : Nat) : nI a ^^^ nI b = nI (a ^^^ b) := by
  apply Int32.toBitVec_inj.1
  show BitVec.ofNat 32 a ^^^ BitVec.ofNat 32 b = BitVec.ofNat 32 (a ^^^ b)
  apply BitVec.eq_of_getLsbD_eq
  intro i hi
  simp [hi]
end
section
/-! code words: bits, ones, syndrome; plain, no program in sight -/
def cf_bn (b : Bool) : Nat := if b = true then 1 else 0
theorem cf_bn_le (b : Bool) : cf_bn b ≤ 1 := by cases b <;> decide
theorem cf_b1 : ∀ i, i < 32 → bt 1 i = decide (i = 0) := by decide +kernel
theorem cf_bbn (b : Bool) (i : Nat) (hi : i < 32) : bt (nI (cf_bn b)) i = (decide (i = 0) && b) := by
  cases b
  · rw [Bool.and_false]; exact b_0 i
  · rw [Bool.and_true]; exact cf_b1 i hi
theorem cf_ubit (n : Nat) (hn : n < 32) (x : Int32) : (x.toUInt32 >>> ((nI n).toUInt32 &&& Int32.toUInt32 31)).toInt32 &&& 1 = nI (cf_bn (bt x n)) := by
  apply b_ext
  intro i hi
  rw [b_and, b_ushr n hn, cf_b1 i hi, cf_bbn _ _ hi]
  by_cases h : i = 0
  · subst h; simp
  · simp [h]
theorem cf_sbit (n : Nat) (hn : n < 32) (x : Int32) : (x >>> (nI n &&& 31)) &&& 1 = nI (cf_bn (bt x n)) := by
  apply b_ext
  intro i hi
  rw [b_and, b_sshr n hn x hi, cf_b1 i hi, cf_bbn _ _ hi]
  by_cases h : i = 0
  · subst h; simp [hn]
  · simp [h]
theorem cf_one (p : Nat) (hp : p < 32) {i : Nat} (hi : i < 32) : bt ((1 : Int32) <<< (nI p &&& 31)) i = decide (i = p) := by
  rw [b_shl p hp 1 hi, cf_b1 _ (by omega)]
  by_cases h : i = p
  · subst h; simp
  · by_cases h2 : p ≤ i
    · have : ¬ i - p = 0 := by omega
      simp [h, this]
    · simp [h, h2]
theorem cf_and1 (a : Nat) : nI a &&& 1 = nI (a % 2) := by
  rw [← Nat.and_one_is_mod]
  exact nx_and a 1
theorem cf_bn0 (b : Bool) : nI (cf_bn b) = 0 ↔ b = false := by cases b <;> decide
def cf_on (g : Nat → Bool) : Nat → Nat
  | 0 => 0
  | n + 1 => cf_on g n + cf_bn (g n)
def cf_sy (g : Nat → Bool) : Nat → Nat
  | 0 => 0
  | n + 1 => if g n = true then cf_sy g n ^^^ n else cf_sy g n
theorem cf_on_s (g : Nat → Bool) (n : Nat) : cf_on g (n + 1) = cf_on g n + cf_bn (g n) := rfl
theorem cf_sy_t {g : Nat → Bool} {n : Nat} (h : g n = true) : cf_sy g (n + 1) = cf_sy g n ^^^ n := if_pos h
theorem cf_sy_f {g : Nat → Bool} {n : Nat} (h : g n = false) : cf_sy g (n + 1) = cf_sy g n := if_neg (by rw [h]; decide)
theorem cf_on_le (g : Nat → Bool) (n : Nat) : cf_on g n ≤ n := by
  induction n with
  | zero => exact Nat.le_refl 0
  | succ n ih => have := cf_bn_le (g n); rw [cf_on_s]; omega
theorem cf_sy_1 (g : Nat → Bool) : cf_sy g 1 = 0 := by
  cases h : g 0
  · rw [cf_sy_f h]; rfl
  · rw [cf_sy_t h, Nat.xor_zero]; rfl
theorem cf_sy_congr {g h : Nat → Bool} (n : Nat) (e : ∀ i, i < n → i ≠ 0 → g i = h i) : cf_sy g n = cf_sy h n := by
  induction n with
  | zero => rfl
  | succ n ih =>
    have ih' := ih (fun i hi h0 => e i (by omega) h0)
    by_cases h0 : n = 0
    · subst h0; rw [cf_sy_1, cf_sy_1]
    · have en := e n (by omega) h0
      cases hb : g n
      · rw [cf_sy_f hb, cf_sy_f (by rw [← en]; exact hb), ih']
      · rw [cf_sy_t hb, cf_sy_t (by rw [← en]; exact hb), ih']
theorem cf_on_congr {g h : Nat → Bool} (n : Nat) (e : ∀ i, i < n → g i = h i) : cf_on g n = cf_on h n := by
  induction n with
  | zero => rfl
  | succ n ih => rw [cf_on_s, cf_on_s, ih (fun i hi => e i (by omega)), e n (by omega)]
theorem cf_sy_xor (g h : Nat → Bool) (n : Nat) : cf_sy (fun i => g i ^^ h i) n = cf_sy g n ^^^ cf_sy h n := by
  induction n with
  | zero => exact (Nat.xor_zero 0).symm
  | succ n ih =>
    cases hg : g n <;> cases hh : h n
    · have hx : (g n ^^ h n) = false := by rw [hg, hh]; rfl
      rw [cf_sy_f hg, cf_sy_f hh, cf_sy_f (g := fun i => g i ^^ h i) hx, ih]
    · have hx : (g n ^^ h n) = true := by rw [hg, hh]; rfl
      rw [cf_sy_f hg, cf_sy_t hh, cf_sy_t (g := fun i => g i ^^ h i) hx, ih, Nat.xor_assoc]
    · have hx : (g n ^^ h n) = true := by rw [hg, hh]; rfl
      rw [cf_sy_t hg, cf_sy_f hh, cf_sy_t (g := fun i => g i ^^ h i) hx, ih, Nat.xor_assoc, Nat.xor_assoc, Nat.xor_comm (cf_sy h n) n]
    · have hx : (g n ^^ h n) = false := by rw [hg, hh]; rfl
      rw [cf_sy_t hg, cf_sy_t hh, cf_sy_f (g := fun i => g i ^^ h i) hx, ih, Nat.xor_assoc, Nat.xor_comm (cf_sy h n) n, ← Nat.xor_assoc n n, Nat.xor_self, Nat.zero_xor]
theorem cf_on_xor (g h : Nat → Bool) (n : Nat) : cf_on (fun i => g i ^^ h i) n % 2 = (cf_on g n + cf_on h n) % 2 := by
  induction n with
  | zero => rfl
  | succ n ih =>
    have e1 : cf_on (fun i => g i ^^ h i) (n + 1) = cf_on (fun i => g i ^^ h i) n + cf_bn (g n ^^ h n) := rfl
    have hb : cf_bn (g n ^^ h n) % 2 = (cf_bn (g n) + cf_bn (h n)) % 2 := by cases g n <;> cases h n <;> rfl
    rw [e1, cf_on_s, cf_on_s]
    omega
theorem cf_sy_lt (g : Nat → Bool) (n : Nat) (hn : n ≤ 32) : cf_sy g n < 32 := by
  induction n with
  | zero => exact (by decide : 0 < 32)
  | succ n ih =>
    have ih' := ih (by omega)
    cases hb : g n
    · rw [cf_sy_f hb]; exact ih'
    · rw [cf_sy_t hb]; exact Nat.xor_lt_two_pow (n := 5) ih' (by omega)
/-- none, one or two ones, and their syndromes -/
theorem cf_few (g : Nat → Bool) (n : Nat) : (cf_on g n = 0 → (∀ i, i < n → g i = false) ∧ cf_sy g n = 0) ∧
    (cf_on g n = 1 → ∃ p, p < n ∧ cf_sy g n = p ∧ ∀ i, i < n → g i = decide (i = p)) ∧
    (cf_on g n = 2 → cf_sy g n ≠ 0) := by
  induction n with
  | zero => exact ⟨fun _ => ⟨fun i hi => absurd hi (by omega), rfl⟩, fun h => absurd (show (0 : Nat) = 1 from h) (by decide), fun h => absurd (show (0 : Nat) = 2 from h) (by decide)⟩
  | succ n ih =>
    obtain ⟨i0, i1, i2⟩ := ih
    cases hb : g n
    · have e : cf_on g (n + 1) = cf_on g n := by rw [cf_on_s, hb]; rfl
      rw [e, cf_sy_f hb]
      refine ⟨fun h => ?_, fun h => ?_, i2⟩
      · obtain ⟨a, b⟩ := i0 h
        refine ⟨fun i hi => ?_, b⟩
        by_cases hin : i = n
        · rw [hin]; exact hb
        · exact a i (by omega)
      · obtain ⟨p, hp, a, b⟩ := i1 h
        refine ⟨p, by omega, a, fun i hi => ?_⟩
        by_cases hin : i = n
        · rw [hin, hb, decide_eq_false (by omega)]
        · exact b i (by omega)
    · have e : cf_on g (n + 1) = cf_on g n + 1 := by rw [cf_on_s, hb]; rfl
      rw [e, cf_sy_t hb]
      refine ⟨fun h => absurd h (by omega), fun h => ?_, fun h => ?_⟩
      · obtain ⟨a, b⟩ := i0 (by omega)
        refine ⟨n, by omega, by rw [b, Nat.zero_xor], fun i hi => ?_⟩
        by_cases hin : i = n
        · rw [hin, hb, decide_eq_true rfl]
        · rw [a i (by omega), decide_eq_false hin]
      · obtain ⟨p, hp, a, _⟩ := i1 (by omega)
        rw [a]
        intro z
        have h1 : (p ^^^ n) ^^^ n = p := by rw [Nat.xor_assoc, Nat.xor_self, Nat.xor_zero]
        rw [z, Nat.zero_xor] at h1
        omega
/-- one bit turned: one more or one less -/
theorem cf_on_flip (g : Nat → Bool) (p n : Nat) : cf_on (fun i => g i ^^ decide (i = p)) n + (if p < n then cf_bn (g p) else 0) = cf_on g n + (if p < n then cf_bn (!g p) else 0) := by
  induction n with
  | zero => simp [cf_on]
  | succ n ih =>
    rw [cf_on_s, cf_on_s]
    by_cases h1 : p < n
    · have h3 : ¬ n = p := by omega
      rw [if_pos h1, if_pos h1] at ih
      rw [if_pos (show p < n + 1 by omega), if_pos (show p < n + 1 by omega), decide_eq_false h3, Bool.xor_false]
      omega
    · rw [if_neg h1, if_neg h1] at ih
      by_cases h2 : n = p
      · subst h2
        rw [if_pos (show n < n + 1 by omega), if_pos (show n < n + 1 by omega), decide_eq_true rfl, Bool.xor_true]
        omega
      · rw [if_neg (show ¬ p < n + 1 by omega), if_neg (show ¬ p < n + 1 by omega), decide_eq_false h2, Bool.xor_false]
        omega
def cf_ck (n : Nat) : Bool := n == 1 || n == 2 || n == 4 || n == 8 || n == 16
def cf_dt (n : Nat) : Bool := !(n == 0) && !(cf_ck n)
def cf_ix (n : Nat) : Nat := cf_on cf_dt n
theorem cf_ix_s (n : Nat) : cf_ix (n + 1) = cf_ix n + cf_bn (cf_dt n) := rfl
theorem cf_ix_le (n : Nat) : cf_ix n ≤ n := cf_on_le _ n
theorem cf_ix_22 : cf_ix 22 = 16 := by decide
theorem cf_ck_w : ∀ n, n < 22 → 1 ≤ n → ((nI n &&& (nI n - 1)) = 0 ↔ cf_ck n = true) := by decide +kernel
theorem cf_dt_t {n : Nat} (h1 : 1 ≤ n) (h : cf_ck n = false) : cf_dt n = true := by
  unfold cf_dt; rw [h]
  have : (n == 0) = false := by simp; omega
  rw [this]; rfl
theorem cf_dt_f {n : Nat} (h : cf_ck n = true) : cf_dt n = false := by
  unfold cf_dt; rw [h]; simp
/-- the check bits of a syndrome s, b of them -/
def cf_cb (s : Int32) : Nat → Nat → Bool
  | 0, _ => false
  | b + 1, i => cf_cb s b i || (decide (i = 2 ^ b) && bt s b)
theorem cf_cb_sy : ∀ s, s < 32 → cf_sy (cf_cb (nI s) 5) 22 = s := by decide +kernel
theorem cf_cb_dt {s : Int32} {i : Nat} (h : cf_cb s 5 i = true) : cf_ck i = true ∧ i ≤ 16 ∧ i ≠ 0 := by
  simp [cf_cb] at h
  rcases h with (((h | h) | h) | h) | h
  all_goals (obtain ⟨rfl, _⟩ := h; decide)
theorem cf_2b : ∀ b, b < 5 → ((1 : Int32) <<< (nI b &&& 31)) = nI (2 ^ b) ∧ 2 ^ b < 32 := by decide +kernel
def cf_low (x : Int32) (n : Nat) : Prop := ∀ i, n ≤ i → i < 32 → bt x i = false
/-- x is the code word of v -/
def cf_code (v x : Int32) : Prop := cf_low x 22 ∧ cf_sy (bt x) 22 = 0 ∧ cf_on (bt x) 22 % 2 = 0 ∧ ∀ i, i < 22 → cf_dt i = true → bt x i = bt v (cf_ix i)
/-- the data bits below place j -/
def cf_E (v : Int32) (j : Nat) (x : Int32) : Prop := ∀ i, i < 32 → bt x i = (decide (i < j) && cf_dt i && bt v (cf_ix i))
theorem cf_E_1 (v : Int32) : cf_E v 1 0 := by
  intro i hi
  rw [b_0]
  by_cases h : i = 0
  · subst h; rfl
  · rw [decide_eq_false (by omega)]; rfl
theorem cf_E_ck {v x : Int32} {j : Nat} (h : cf_E v j x) (hd : cf_dt j = false) : cf_E v (j + 1) x := by
  intro i hi
  rw [h i hi]
  by_cases e : i = j
  · subst e; rw [hd]; simp
  · by_cases h2 : i < j
    · rw [decide_eq_true h2, decide_eq_true (show i < j + 1 by omega)]
    · rw [decide_eq_false h2, decide_eq_false (show ¬ i < j + 1 by omega)]
theorem cf_E_dt {v x : Int32} {j : Nat} (hj : j < 32) (h : cf_E v j x) (hd : cf_dt j = true) : cf_E v (j + 1) (x ||| (nI (cf_bn (bt v (cf_ix j))) <<< (nI j &&& 31))) := by
  intro i hi
  rw [b_or, h i hi, b_shl j hj _ hi, cf_bbn _ _ (by omega)]
  by_cases e : i = j
  · subst e; rw [hd]; simp
  · by_cases h2 : i < j
    · rw [decide_eq_true h2, decide_eq_true (show i < j + 1 by omega), decide_eq_false (show ¬ j ≤ i by omega)]; simp
    · rw [decide_eq_false h2, decide_eq_false (show ¬ i < j + 1 by omega), decide_eq_false (show ¬ i - j = 0 by omega)]; simp
/-- the check bits over the data bits -/
def cf_E2 (y s : Int32) (b : Nat) (x : Int32) : Prop := ∀ i, i < 32 → bt x i = (bt y i || cf_cb s b i)
theorem cf_E2_0 (y s : Int32) : cf_E2 y s 0 y := fun i _ => (Bool.or_false (bt y i)).symm
theorem cf_E2_s {y s x : Int32} {b : Nat} (hb : b < 5) (h : cf_E2 y s b x) : cf_E2 y s (b + 1) (x ||| (nI (cf_bn (bt s b)) <<< (nI (2 ^ b) &&& 31))) := by
  intro i hi
  have h2 := (cf_2b b hb).2
  rw [b_or, h i hi, b_shl (2 ^ b) h2 _ hi, cf_bbn _ _ (Nat.lt_of_le_of_lt (Nat.sub_le _ _) hi), Bool.or_assoc]
  show _ = (bt y i || (cf_cb s b i || (decide (i = 2 ^ b) && bt s b)))
  generalize 2 ^ b = m
  by_cases e : i = m
  · subst e; simp
  · by_cases h3 : m ≤ i
    · rw [decide_eq_false e, decide_eq_false (show ¬ i - m = 0 by omega)]; simp
    · rw [decide_eq_false e, decide_eq_false h3]; simp
theorem cf_on_0 {g h : Nat → Bool} {p : Bool} (n : Nat) (e : ∀ i, i < n + 1 → i ≠ 0 → g i = h i) (h0 : h 0 = false) (g0 : g 0 = p) : cf_on g (n + 1) = cf_on h (n + 1) + cf_bn p := by
  induction n with
  | zero => rw [cf_on_s, cf_on_s, g0, h0]; show 0 + _ = 0 + 0 + _; omega
  | succ n ih => rw [cf_on_s, ih (fun i hi => e i (by omega)), cf_on_s h (n + 1), e (n + 1) (by omega) (by omega)]; omega
/-- what encode builds is the code word -/
theorem cf_fin {v y x : Int32} (hy : cf_E v 22 y) (hx : cf_E2 y (nI (cf_sy (bt y) 22)) 5 x) : cf_code v (x ||| (nI (cf_on (bt x) 22) &&& 1)) := by
  have hs : cf_sy (bt y) 22 < 32 := cf_sy_lt _ 22 (by decide)
  have h1 : nI (cf_on (bt x) 22) &&& 1 = nI (cf_bn (decide (cf_on (bt x) 22 % 2 = 1))) := by
    rw [cf_and1]
    rcases Nat.mod_two_eq_zero_or_one (cf_on (bt x) 22) with z | z <;> rw [z] <;> rfl
  rw [h1]
  generalize hp : decide (cf_on (bt x) 22 % 2 = 1) = p
  have hb : ∀ i, i < 32 → bt (x ||| nI (cf_bn p)) i = (bt x i || (decide (i = 0) && p)) := fun i hi => by rw [b_or, cf_bbn _ _ hi]
  have hn : ∀ i, i < 32 → i ≠ 0 → bt (x ||| nI (cf_bn p)) i = bt x i := fun i hi h0 => by rw [hb i hi, decide_eq_false h0, Bool.false_and, Bool.or_false]
  have hc : ∀ i, i < 32 → cf_dt i = true → cf_cb (nI (cf_sy (bt y) 22)) 5 i = false := fun i _ hd => by
    apply eq_false_of_ne_true
    intro z
    rw [cf_dt_f (cf_cb_dt z).1] at hd
    exact absurd hd (by decide)
  have hy0 : ∀ i, i < 32 → cf_dt i = false → bt y i = false := fun i hi hd => by rw [hy i hi, hd]; simp
  have hx0 : bt x 0 = false := by
    rw [hx 0 (by decide), hy0 0 (by decide) (by decide)]
    rw [Bool.false_or]
    apply eq_false_of_ne_true
    intro z
    exact (cf_cb_dt z).2.2 rfl
  refine ⟨fun i h22 hi => ?_, ?_, ?_, fun i hi hd => ?_⟩
  · rw [hn i hi (by omega), hx i hi, hy i hi, decide_eq_false (show ¬ i < 22 by omega)]
    rw [Bool.false_and, Bool.false_and, Bool.false_or]
    apply eq_false_of_ne_true
    intro z
    have := (cf_cb_dt z).2.1
    omega
  · have e1 : cf_sy (bt (x ||| nI (cf_bn p))) 22 = cf_sy (fun i => bt y i ^^ cf_cb (nI (cf_sy (bt y) 22)) 5 i) 22 := by
      apply cf_sy_congr
      intro i hi h0
      rw [hn i (by omega) h0, hx i (by omega)]
      cases hd : cf_dt i
      · rw [hy0 i (by omega) hd, Bool.false_or, Bool.false_xor]
      · rw [hc i (by omega) hd, Bool.or_false, Bool.xor_false]
    rw [e1, cf_sy_xor, cf_cb_sy _ hs, Nat.xor_self]
  · rw [cf_on_0 (g := bt (x ||| nI (cf_bn p))) (h := bt x) (p := p) 21 (fun i hi h0 => hn i (by omega) h0) hx0 (by rw [hb 0 (by decide), hx0]; simp)]
    rw [← hp]
    show (cf_on (bt x) 22 + _) % 2 = 0
    rcases Nat.mod_two_eq_zero_or_one (cf_on (bt x) 22) with z | z
    · rw [z]; show (cf_on (bt x) 22 + 0) % 2 = 0; omega
    · rw [z]; show (cf_on (bt x) 22 + 1) % 2 = 0; omega
  · have h0 : i ≠ 0 := fun z => by rw [z] at hd; exact absurd hd (by decide)
    rw [hn i (by omega) h0, hx i (by omega), hc i (by omega) hd, Bool.or_false, hy i (by omega), hd, decide_eq_true hi]
    simp
end
section
/-! the walks of ones, syndrome, isCheck, encode, decode (X) and turns (Y) -/
theorem cf_22 {j : Nat} (h : j = 22) : (22 : Int32) ≤ nI j := by subst h; exact nI_le (a := 22) (b := 22) (by omega) (by omega)
theorem cf_n22 {j : Nat} (h : j < 22) : ¬ (22 : Int32) ≤ nI j := nI_ge (b := 22) h (by decide)
theorem cf_ones_l {post : Int32 → Prop} {x : Int32} (h : post (nI (cf_on (bt x) 22))) : ∀ d j : Nat, j + d = 22 → wX_ones_4 post x (d + 1) (nI (cf_on (bt x) j)) (nI j) := by
  intro d
  induction d with
  | zero =>
    intro j e
    have e2 : j = 22 := by omega
    subst e2
    exact br_t (cf_22 rfl) h
  | succ d ih =>
    intro j e
    refine br_f (cf_n22 (by omega)) ?_
    refine nm_r (e' := nI (cf_on (bt x) (j + 1))) (by rw [cf_ubit j (by omega), nI_add]; rfl) ?_
    exact nm_r (nI_1 j) (ih (j + 1) (by omega))
theorem cf_w_ones {post : Int32 → Prop} {x : Int32} (h : post (nI (cf_on (bt x) 22))) : wpX_ones post x := ⟨23, cf_ones_l h 22 0 rfl⟩
theorem cf_syn_l {post : Int32 → Prop} {x : Int32} (h : post (nI (cf_sy (bt x) 22))) : ∀ d j : Nat, j + d = 22 → wX_syndrome_4 post x (d + 1) (nI (cf_sy (bt x) j)) (nI j) := by
  intro d
  induction d with
  | zero =>
    intro j e
    have e2 : j = 22 := by omega
    subst e2
    exact br_t (cf_22 rfl) h
  | succ d ih =>
    intro j e
    refine br_f (cf_n22 (by omega)) ?_
    cases hb : bt x j
    · refine br_t (by rw [cf_ubit j (by omega), hb]; rfl) ?_
      refine nm_r (e' := nI (cf_sy (bt x) (j + 1))) (by rw [cf_sy_f hb]; exact Int32.xor_zero) ?_
      exact nm_r (nI_1 j) (ih (j + 1) (by omega))
    · refine br_f (by rw [cf_ubit j (by omega), hb]; decide) ?_
      refine nm_r (e' := nI (cf_sy (bt x) (j + 1))) (by rw [cf_sy_t hb, nx_xor]) ?_
      exact nm_r (nI_1 j) (ih (j + 1) (by omega))
theorem cf_w_syn {post : Int32 → Prop} {x : Int32} (h : post (nI (cf_sy (bt x) 22))) : wpX_syndrome post x := by
  have k := cf_syn_l h 21 1 rfl
  rw [cf_sy_1] at k
  exact ⟨22, k⟩
theorem cf_w_check {post : Int32 → Prop} {n : Nat} (h1 : 1 ≤ n) (hn : n < 22) (ht : cf_ck n = true → post 1) (hf : cf_ck n = false → post 0) : wpX_isCheck post (nI n) :=
  br_c (fun z => ht ((cf_ck_w n hn h1).mp z)) (fun z => hf (eq_false_of_ne_true (fun q => z ((cf_ck_w n hn h1).mpr q))))
theorem cf_enc1 {post : Int32 → Prop} {v : Int32} (h : ∀ x, cf_E v 22 x → wpX_syndrome (fun r => ∃ n, wX_encode_46 post r n x 0) x) : ∀ (d j : Nat) (x : Int32), 1 ≤ j → j + d = 22 → cf_E v j x → wX_encode_6 post v (d + 1) x (nI (cf_ix j)) (nI j) := by
  intro d
  induction d with
  | zero =>
    intro j x _ e E
    have e2 : j = 22 := by omega
    subst e2
    exact br_t (cf_22 rfl) (h x E)
  | succ d ih =>
    intro j x h1 e E
    refine br_f (cf_n22 (by omega)) ?_
    refine cf_w_check h1 (by omega) (fun ck => ?_) (fun ck => ?_)
    · refine br_f (by decide) (nm_r (nI_1 j) ?_)
      have hd := cf_dt_f ck
      have k := ih (j + 1) x (by omega) (by omega) (cf_E_ck E hd)
      rw [cf_ix_s, hd] at k
      exact k
    · refine br_t rfl ?_
      have hd := cf_dt_t h1 ck
      have k := ih (j + 1) _ (by omega) (by omega) (cf_E_dt (by omega) E hd)
      rw [cf_ix_s, hd] at k
      have hi := cf_ix_le j
      refine nm_r (e' := x ||| (nI (cf_bn (bt v (cf_ix j))) <<< (nI j &&& 31))) (by rw [cf_ubit (cf_ix j) (by omega)]) ?_
      exact nm_r (nI_1 (cf_ix j)) (nm_r (nI_1 j) k)
theorem cf_enc2 {post : Int32 → Prop} {y s : Int32} (h : ∀ x, cf_E2 y s 5 x → post (x ||| (nI (cf_on (bt x) 22) &&& 1))) : ∀ (d b : Nat) (x : Int32), b + d = 5 → cf_E2 y s b x → wX_encode_46 post s (d + 1) x (nI b) := by
  intro d
  induction d with
  | zero =>
    intro b x e E
    have e2 : b = 5 := by omega
    subst e2
    exact br_t (nI_le (a := 5) (b := 5) (by omega) (by omega)) (cf_w_ones (h x E))
  | succ d ih =>
    intro b x e E
    refine br_f (nI_ge (b := 5) (by omega) (by decide)) ?_
    refine nm_r (e' := x ||| (nI (cf_bn (bt s b)) <<< (nI (2 ^ b) &&& 31))) (by rw [cf_ubit b (by omega), (cf_2b b (by omega)).1]) ?_
    exact nm_r (nI_1 b) (ih (b + 1) _ (by omega) (cf_E2_s (by omega) E))
theorem cf_w_enc {post : Int32 → Prop} {v : Int32} (h : ∀ x, cf_code v x → post x) : wpX_encode post v := by
  refine ⟨22, cf_enc1 (fun y E => ?_) 21 1 0 (by decide) rfl (cf_E_1 v)⟩
  refine cf_w_syn ⟨6, ?_⟩
  exact cf_enc2 (y := y) (fun x E2 => h _ (cf_fin E E2)) 5 0 y rfl (cf_E2_0 y _)
def cf_F (v : Int32) (k : Nat) (x : Int32) : Prop := ∀ i, i < 32 → bt x i = (decide (i < k) && bt v i)
theorem cf_F_0 (v : Int32) : cf_F v 0 0 := fun i _ => by rw [b_0, decide_eq_false (by omega)]; rfl
theorem cf_F_s {v x : Int32} {k : Nat} (hk : k < 32) (h : cf_F v k x) : cf_F v (k + 1) (x ||| (nI (cf_bn (bt v k)) <<< (nI k &&& 31))) := by
  intro i hi
  rw [b_or, h i hi, b_shl k hk _ hi, cf_bbn _ _ (by omega)]
  by_cases e : i = k
  · subst e; simp
  · by_cases h2 : i < k
    · rw [decide_eq_true h2, decide_eq_true (show i < k + 1 by omega), decide_eq_false (show ¬ k ≤ i by omega)]; simp
    · rw [decide_eq_false h2, decide_eq_false (show ¬ i < k + 1 by omega), decide_eq_false (show ¬ i - k = 0 by omega)]; simp
theorem cf_F_16 {v x : Int32} (hv : cf_low v 16) (h : cf_F v 16 x) : x = v := by
  apply b_ext
  intro i hi
  rw [h i hi]
  by_cases e : i < 16
  · rw [decide_eq_true e, Bool.true_and]
  · rw [decide_eq_false e, Bool.false_and, hv i (by omega) hi]
theorem cf_dec54 {post : Int32 → Prop} {v y : Int32} (hv : cf_low v 16) (hy : ∀ i, i < 22 → cf_dt i = true → bt y i = bt v (cf_ix i)) (h : post v) : ∀ (d j : Nat) (x : Int32), 1 ≤ j → j + d = 22 → cf_F v (cf_ix j) x → wX_decode_54 post y (d + 1) x (nI (cf_ix j)) (nI j) := by
  intro d
  induction d with
  | zero =>
    intro j x _ e F
    have e2 : j = 22 := by omega
    subst e2
    rw [cf_ix_22] at F
    rw [cf_F_16 hv F]
    exact br_t (cf_22 rfl) h
  | succ d ih =>
    intro j x h1 e F
    refine br_f (cf_n22 (by omega)) ?_
    refine cf_w_check h1 (by omega) (fun ck => ?_) (fun ck => ?_)
    · refine br_f (by decide) (nm_r (nI_1 j) ?_)
      have hd := cf_dt_f ck
      have ei : cf_ix (j + 1) = cf_ix j := by rw [cf_ix_s, hd]; rfl
      have k := ih (j + 1) x (by omega) (by omega) (by rw [ei]; exact F)
      rw [ei] at k
      exact k
    · refine br_t rfl ?_
      have hd := cf_dt_t h1 ck
      have ei : cf_ix (j + 1) = cf_ix j + 1 := by rw [cf_ix_s, hd]; rfl
      have hi := cf_ix_le j
      have k := ih (j + 1) _ (by omega) (by omega) (by rw [ei]; exact cf_F_s (by omega) F)
      rw [ei] at k
      refine nm_r (e' := x ||| (nI (cf_bn (bt v (cf_ix j))) <<< (nI (cf_ix j) &&& 31))) (by rw [cf_ubit j (by omega), hy j (by omega) hd]) ?_
      exact nm_r (nI_1 (cf_ix j)) (nm_r (nI_1 j) k)
theorem cf_dec {post : Int32 → Prop} {v y : Int32} (hv : cf_low v 16) (hy : ∀ i, i < 22 → cf_dt i = true → bt y i = bt v (cf_ix i)) (h : post v) : ∃ n, wX_decode_54 post y n 0 0 1 := ⟨22, cf_dec54 hv hy h 21 1 0 (by decide) rfl (cf_F_0 v)⟩
/-- a code word with none, one or two bits turned -/
theorem cf_w_dec {post : Int32 → Prop} {v x t : Int32} (hv : cf_low v 16) (hx : cf_code v x) (h2 : cf_on (bt t) 22 ≤ 2) (h : post (if cf_on (bt t) 22 = 2 then -3 else v)) : wpX_decode post (x ^^^ t) := by
  obtain ⟨hl, hs, ho, hd⟩ := hx
  have eb : bt (x ^^^ t) = fun i => bt x i ^^ bt t i := funext (fun i => b_xor x t i)
  have es : cf_sy (bt (x ^^^ t)) 22 = cf_sy (bt t) 22 := by rw [eb, cf_sy_xor, hs, Nat.zero_xor]
  have eo : cf_on (bt (x ^^^ t)) 22 % 2 = cf_on (bt t) 22 % 2 := by rw [eb, cf_on_xor]; omega
  obtain ⟨f0, f1, f2⟩ := cf_few (bt t) 22
  unfold wpX_decode
  refine cf_w_syn (cf_w_ones ?_)
  rw [es, cf_and1, eo]
  have hc : cf_on (bt t) 22 = 0 ∨ cf_on (bt t) 22 = 1 ∨ cf_on (bt t) 22 = 2 := by omega
  rcases hc with c | c | c
  · obtain ⟨a, b⟩ := f0 c
    rw [c] at h
    rw [c, b]
    refine br_t rfl (br_t rfl (br_t rfl (br_t rfl (cf_dec hv (fun i hi hdt => ?_) h))))
    rw [b_xor, a i hi, Bool.xor_false]
    exact hd i hi hdt
  · obtain ⟨p, hp, b, a⟩ := f1 c
    rw [c] at h
    rw [c, b]
    refine br_f (by decide) (br_f (by decide) (br_f (by decide) (nm_e (cf_dec hv (fun i hi hdt => ?_) h))))
    rw [b_xor, b_xor, a i hi, cf_one p (by omega) (by omega), Bool.xor_assoc, Bool.xor_self, Bool.xor_false]
    exact hd i hi hdt
  · have s0 := f2 c
    rw [c] at h
    have sl := cf_sy_lt (bt t) 22 (by decide)
    rw [c]
    refine br_t rfl (br_t rfl (br_f ?_ h))
    exact nI_ne0 (by omega) (by omega)
/-- Y's turns counts the same ones -/
theorem cf_turns_l {post : Int32 → Prop} {s : Nat} {x : Int32} {a b t : Nat → Int32} (hs : s < 16) (hx : t s = x) (h : post (nI (cf_on (bt x) 22))) : ∀ d j : Nat, j + d = 22 → wY_turns_4 post (nI s) a b t (d + 1) (nI (cf_on (bt x) j)) (nI j) := by
  intro d
  induction d with
  | zero =>
    intro j e
    have e2 : j = 22 := by omega
    subst e2
    exact br_t (cf_22 rfl) h
  | succ d ih =>
    intro j e
    refine br_f (cf_n22 (by omega)) ⟨vp_in_nI hs (by omega), ?_⟩
    refine nm_r (e' := nI (cf_on (bt x) (j + 1))) (by rw [nI_clamp (by omega), hx, cf_sbit j (by omega), nI_add]; rfl) ?_
    exact nm_r (nI_1 j) (ih (j + 1) (by omega))
theorem cf_w_turns {post : Int32 → Prop} {s : Nat} {x : Int32} {a b t : Nat → Int32} (hs : s < 16) (hx : t s = x) (h : post (nI (cf_on (bt x) 22))) : wpY_turns post (a, b, t) (nI s) := ⟨23, cf_turns_l hs hx h 22 0 rfl⟩
end
section
/-! the flash, plain: pages K (kind), O (owner), S (serial), sectors N (0: none, p + 1: page p) -/
def cf_u (f : Nat → Nat) (k x : Nat) : Nat → Nat := fun j => if j = k then x else f j
theorem cf_us {f : Nat → Nat} {k x : Nat} : cf_u f k x k = x := if_pos rfl
theorem cf_un {f : Nat → Nat} {k j x : Nat} (h : j ≠ k) : cf_u f k x j = f j := if_neg h
theorem cf_uI (O : Nat → Nat) (q s : Nat) : upd (fun p => nI (O p)) q (nI s) = fun p => nI (cf_u O q s p) := by
  funext j
  show upd (fun p => nI (O p)) q (nI s) j = nI (cf_u O q s j)
  by_cases h : j = q
  · subst h; rw [pk_us, cf_us]
  · rw [pk_un h, cf_un h]
theorem cf_uL (S : Nat → Nat) (q s : Nat) : vp_updL (fun p => lN (S p)) q (lN s) = fun p => lN (cf_u S q s p) := by
  funext j
  show vp_updL (fun p => lN (S p)) q (lN s) j = lN (cf_u S q s j)
  by_cases h : j = q
  · subst h; rw [pk_uLs, cf_us]
  · rw [pk_uLn h, cf_un h]
theorem cf_uM (N : Nat → Nat) (s q : Nat) : upd (fun j => nI (N j) - 1) s (nI q) = fun j => nI (cf_u N s (q + 1) j) - 1 := by
  funext j
  show upd (fun j => nI (N j) - 1) s (nI q) j = nI (cf_u N s (q + 1) j) - 1
  by_cases h : j = s
  · subst h; rw [pk_us, cf_us, nI_pred]
  · rw [pk_un h, cf_un h]
theorem cf_uM0 (N : Nat → Nat) (s : Nat) : upd (fun j => nI (N j) - 1) s (-1) = fun j => nI (cf_u N s 0 j) - 1 := by
  funext j
  show upd (fun j => nI (N j) - 1) s (-1) j = nI (cf_u N s 0 j) - 1
  by_cases h : j = s
  · subst h; rw [pk_us, cf_us]; decide
  · rw [pk_un h, cf_un h]
theorem cf_m0 {n : Nat} (h : n < 2 ^ 31) : nI n - 1 < 0 ↔ n = 0 := by
  cases n with
  | zero => exact ⟨fun _ => rfl, fun _ => by decide⟩
  | succ n =>
    rw [nI_pred]
    exact ⟨fun z => absurd z (nI_pos (by omega)), fun z => absurd z (by omega)⟩
theorem cf_mp {n p : Nat} (h : n ≤ 32) (hp : p < 32) : nI n - 1 = nI p ↔ n = p + 1 := by
  cases n with
  | zero =>
    refine ⟨fun z => absurd (nI_pos (n := p) (by omega)) ?_, fun z => absurd z (by omega)⟩
    rw [← z]; decide
  | succ n =>
    rw [nI_pred, nI_eq (by omega) (by omega)]
    omega
theorem cf_ms {n : Nat} (h : n ≠ 0) : nI n - 1 = nI (n - 1) := by
  obtain ⟨m, rfl⟩ : ∃ m, n = m + 1 := ⟨n - 1, by omega⟩
  rw [nI_pred, Nat.add_sub_cancel]
/-- every written page is below the newest of its sector, and the newest pages are written ones of their sectors -/
def cf_B (ns : Nat) (K : Nat → Int32) (O S N : Nat → Nat) : Prop :=
  (∀ p, p < 32 → K p ≠ 0 → O p < 16 ∧ S p < ns ∧ N (O p) ≠ 0 ∧ S p ≤ S (N (O p) - 1) ∧ (S p = S (N (O p) - 1) → p + 1 = N (O p))) ∧
  (∀ s, s < 16 → N s ≤ 32 ∧ (N s ≠ 0 → K (N s - 1) ≠ 0 ∧ O (N s - 1) = s))
theorem cf_B_put {ns : Nat} {K : Nat → Int32} {O S N : Nat → Nat} (hB : cf_B ns K O S N) {q s : Nat} {k : Int32} (hq : q < 32) (hs : s < 16) (hK : K q = 0) (hk : k ≠ 0) : cf_B (ns + 1) (upd K q k) (cf_u O q s) (cf_u S q ns) (cf_u N s (q + 1)) := by
  obtain ⟨h1, h2⟩ := hB
  constructor
  · intro p hp hK'
    by_cases e : p = q
    · subst e
      have e1 : cf_u O p s p = s := cf_us
      have e2 : cf_u N s (p + 1) s = p + 1 := cf_us
      have e3 : cf_u S p ns p = ns := cf_us
      rw [e1, e2, Nat.add_sub_cancel, e3]
      exact ⟨hs, by omega, by omega, by omega, fun _ => rfl⟩
    · rw [pk_un e] at hK'
      obtain ⟨a1, a2, a3, a4, a5⟩ := h1 p hp hK'
      have e1 : cf_u O q s p = O p := cf_un e
      have e3 : cf_u S q ns p = S p := cf_un e
      rw [e1, e3]
      by_cases es : O p = s
      · have e2 : cf_u N s (q + 1) s = q + 1 := cf_us
        have e4 : cf_u S q ns q = ns := cf_us
        rw [es, e2, Nat.add_sub_cancel, e4]
        exact ⟨hs, by omega, by omega, by omega, fun z => absurd z (by omega)⟩
      · rw [cf_un (f := N) es]
        have hr : N (O p) - 1 ≠ q := fun z => ((h2 (O p) a1).2 a3).1 (by rw [z]; exact hK)
        rw [cf_un (f := S) hr]
        exact ⟨a1, by omega, a3, a4, a5⟩
  · intro r hr
    by_cases es : r = s
    · subst es
      have e2 : cf_u N r (q + 1) r = q + 1 := cf_us
      have e4 : cf_u O q r q = r := cf_us
      rw [e2, Nat.add_sub_cancel, pk_us, e4]
      exact ⟨by omega, fun _ => ⟨hk, rfl⟩⟩
    · rw [cf_un es]
      obtain ⟨b1, b2⟩ := h2 r hr
      refine ⟨b1, fun h0 => ?_⟩
      obtain ⟨b3, b4⟩ := b2 h0
      have hrq : N r - 1 ≠ q := fun z => b3 (by rw [z]; exact hK)
      rw [pk_un hrq, cf_un hrq]
      exact ⟨b3, b4⟩
theorem cf_nl {ns : Nat} {K : Nat → Int32} {O S N : Nat → Nat} (hB : cf_B ns K O S N) {p r : Nat} (hl : K p ≠ 0 → N (O p) ≠ p + 1) (hr : r < 16) (h0 : N r ≠ 0) : N r - 1 ≠ p := by
  intro z
  obtain ⟨b3, b4⟩ := (hB.2 r hr).2 h0
  rw [z] at b3 b4
  apply hl b3
  rw [b4]
  omega
theorem cf_B_erase {ns : Nat} {K : Nat → Int32} {O S N : Nat → Nat} (hB : cf_B ns K O S N) {p : Nat} (hl : K p ≠ 0 → N (O p) ≠ p + 1) : cf_B ns (upd K p 0) O S N := by
  constructor
  · intro r hr hK'
    by_cases e : r = p
    · subst e; rw [pk_us] at hK'; exact absurd rfl hK'
    · rw [pk_un e] at hK'
      exact hB.1 r hr hK'
  · intro s hs
    refine ⟨(hB.2 s hs).1, fun h0 => ?_⟩
    rw [pk_un (cf_nl hB hl hs h0)]
    exact (hB.2 s hs).2 h0
/-- what a sector holds: kind, word and turned bits of its newest page -/
def cf_d (K W T : Nat → Int32) (N : Nat → Nat) (s : Nat) : Int32 × Int32 × Int32 := if N s = 0 then (0, 0, 0) else (K (N s - 1), W (N s - 1), T (N s - 1))
theorem cf_d_0 {K W T : Nat → Int32} {N : Nat → Nat} {s : Nat} (h : N s = 0) : cf_d K W T N s = (0, 0, 0) := if_pos h
theorem cf_d_n {K W T : Nat → Int32} {N : Nat → Nat} {s : Nat} (h : N s ≠ 0) : cf_d K W T N s = (K (N s - 1), W (N s - 1), T (N s - 1)) := if_neg h
theorem cf_d_put {K W T : Nat → Int32} {N : Nat → Nat} {q s : Nat} {k w t : Int32} : cf_d (upd K q k) (upd W q w) (upd T q t) (cf_u N s (q + 1)) s = (k, w, t) := by
  have e : cf_u N s (q + 1) s = q + 1 := cf_us
  rw [cf_d_n (by rw [e]; omega), e, Nat.add_sub_cancel, pk_us, pk_us, pk_us]
theorem cf_d_put_n {ns : Nat} {K W T : Nat → Int32} {O S N : Nat → Nat} (hB : cf_B ns K O S N) {q s r : Nat} {k w t : Int32} (hK : K q = 0) (hr : r < 16) (h : r ≠ s) : cf_d (upd K q k) (upd W q w) (upd T q t) (cf_u N s (q + 1)) r = cf_d K W T N r := by
  have e : cf_u N s (q + 1) r = N r := cf_un h
  by_cases h0 : N r = 0
  · rw [cf_d_0 h0, cf_d_0 (by rw [e]; exact h0)]
  · have hq : N r - 1 ≠ q := fun z => ((hB.2 r hr).2 h0).1 (by rw [z]; exact hK)
    rw [cf_d_n h0, cf_d_n (by rw [e]; exact h0), e, pk_un hq, pk_un hq, pk_un hq]
theorem cf_d_erase {ns : Nat} {K W T : Nat → Int32} {O S N : Nat → Nat} (hB : cf_B ns K O S N) {p r : Nat} (hl : K p ≠ 0 → N (O p) ≠ p + 1) (hr : r < 16) : cf_d (upd K p 0) W T N r = cf_d K W T N r := by
  by_cases h0 : N r = 0
  · rw [cf_d_0 h0, cf_d_0 h0]
  · rw [cf_d_n h0, cf_d_n h0, pk_un (cf_nl hB hl hr h0)]
/-- live pages -/
def cf_lv (K : Nat → Int32) (O N : Nat → Nat) (p : Nat) : Nat := if K p = 0 then 0 else if N (O p) = p + 1 then 1 else 0
theorem cf_lv_0 {K : Nat → Int32} {O N : Nat → Nat} {p : Nat} (h : K p = 0) : cf_lv K O N p = 0 := if_pos h
theorem cf_lv_1 {K : Nat → Int32} {O N : Nat → Nat} {p : Nat} (h : K p ≠ 0) (h2 : N (O p) = p + 1) : cf_lv K O N p = 1 := by
  unfold cf_lv; rw [if_neg h, if_pos h2]
theorem cf_lv_n {K : Nat → Int32} {O N : Nat → Nat} {p : Nat} (h : K p ≠ 0) (h2 : N (O p) ≠ p + 1) : cf_lv K O N p = 0 := by
  unfold cf_lv; rw [if_neg h, if_neg h2]
theorem cf_lv_put {K : Nat → Int32} {O N : Nat → Nat} {q s p : Nat} {k : Int32} (hp : p ≠ q) : cf_lv (upd K q k) (cf_u O q s) (cf_u N s (q + 1)) p ≤ cf_lv K O N p := by
  have e1 : upd K q k p = K p := pk_un hp
  have e2 : cf_u O q s p = O p := cf_un hp
  by_cases h : K p = 0
  · rw [cf_lv_0 (by rw [e1]; exact h)]; omega
  · by_cases es : O p = s
    · rw [cf_lv_n (by rw [e1]; exact h) (by rw [e2, es, cf_us]; omega)]; omega
    · have e3 : cf_u N s (q + 1) (O p) = N (O p) := cf_un es
      by_cases h2 : N (O p) = p + 1
      · rw [cf_lv_1 h h2, cf_lv_1 (by rw [e1]; exact h) (by rw [e2, e3]; exact h2)]; omega
      · rw [cf_lv_n (by rw [e1]; exact h) (by rw [e2, e3]; exact h2)]; omega
def cf_sm (g : Nat → Nat) : Nat → Nat → Nat
  | _, 0 => 0
  | a, n + 1 => g a + cf_sm g (a + 1) n
theorem cf_sm_s (g : Nat → Nat) (a n : Nat) : cf_sm g a (n + 1) = g a + cf_sm g (a + 1) n := rfl
theorem cf_sm_mono {g h : Nat → Nat} (n : Nat) : ∀ a, (∀ p, a ≤ p → p < a + n → g p ≤ h p) → cf_sm g a n ≤ cf_sm h a n := by
  induction n with
  | zero => intro a _; exact Nat.le_refl 0
  | succ n ih =>
    intro a e
    rw [cf_sm_s, cf_sm_s]
    have h1 := e a (by omega) (by omega)
    have h2 := ih (a + 1) (fun p h1 h2 => e p (by omega) (by omega))
    omega
/-- the live pages of a block -/
def cf_L (K : Nat → Int32) (O N : Nat → Nat) (b : Nat) : Nat := cf_sm (cf_lv K O N) (4 * b) 4
/-- the sectors whose newest page is below n -/
def cf_cs (N : Nat → Nat) (n : Nat) : Nat → Nat
  | 0 => 0
  | m + 1 => cf_cs N n m + (if N m = 0 then 0 else if N m ≤ n then 1 else 0)
theorem cf_cs_s (N : Nat → Nat) (n m : Nat) : cf_cs N n (m + 1) = cf_cs N n m + (if N m = 0 then 0 else if N m ≤ n then 1 else 0) := rfl
theorem cf_cs_le (N : Nat → Nat) (n m : Nat) : cf_cs N n m ≤ m := by
  induction m with
  | zero => exact Nat.le_refl 0
  | succ m ih =>
    rw [cf_cs_s]
    split
    · omega
    · split <;> omega
theorem cf_cs_mono (N : Nat → Nat) (n m : Nat) : cf_cs N n m ≤ cf_cs N (n + 1) m := by
  induction m with
  | zero => exact Nat.le_refl 0
  | succ m ih =>
    rw [cf_cs_s, cf_cs_s]
    by_cases h0 : N m = 0
    · rw [if_pos h0, if_pos h0]; omega
    · rw [if_neg h0, if_neg h0]
      by_cases h1 : N m ≤ n
      · rw [if_pos h1, if_pos (show N m ≤ n + 1 by omega)]; omega
      · rw [if_neg h1]; omega
theorem cf_cs_one (N : Nat → Nat) {n m s : Nat} (hs : s < m) (h : N s = n + 1) : cf_cs N n m + 1 ≤ cf_cs N (n + 1) m := by
  induction m with
  | zero => omega
  | succ m ih =>
    rw [cf_cs_s, cf_cs_s]
    by_cases e : s = m
    · subst e
      have := cf_cs_mono N n s
      rw [if_neg (show ¬ N s = 0 by omega), if_neg (show ¬ N s = 0 by omega), if_neg (show ¬ N s ≤ n by omega), if_pos (show N s ≤ n + 1 by omega)]
      omega
    · have ih' := ih (by omega)
      by_cases h0 : N m = 0
      · rw [if_pos h0, if_pos h0]; omega
      · rw [if_neg h0, if_neg h0]
        by_cases h1 : N m ≤ n
        · rw [if_pos h1, if_pos (show N m ≤ n + 1 by omega)]; omega
        · rw [if_neg h1]; omega
def cf_ct (g : Nat → Nat) : Nat → Nat
  | 0 => 0
  | n + 1 => cf_ct g n + g n
theorem cf_ct_le {ns : Nat} {K : Nat → Int32} {O S N : Nat → Nat} (hB : cf_B ns K O S N) (n : Nat) (hn : n ≤ 32) : cf_ct (cf_lv K O N) n ≤ cf_cs N n 16 := by
  induction n with
  | zero => exact Nat.zero_le _
  | succ n ih =>
    have ih' := ih (by omega)
    show cf_ct (cf_lv K O N) n + cf_lv K O N n ≤ _
    have hm := cf_cs_mono N n 16
    by_cases h : K n = 0
    · rw [cf_lv_0 h]; omega
    · by_cases h2 : N (O n) = n + 1
      · have := cf_cs_one N (hB.1 n (by omega) h).1 h2
        rw [cf_lv_1 h h2]; omega
      · rw [cf_lv_n h h2]; omega
theorem cf_ct_add (g : Nat → Nat) (n : Nat) : ∀ a, cf_ct g (a + n) = cf_ct g a + cf_sm g a n := by
  induction n with
  | zero => intro a; rfl
  | succ n ih =>
    intro a
    have h := ih (a + 1)
    have e : a + (n + 1) = a + 1 + n := by omega
    rw [e, h, cf_sm_s]
    show cf_ct g a + g a + _ = _
    omega
theorem cf_L_sum {ns : Nat} {K : Nat → Int32} {O S N : Nat → Nat} (hB : cf_B ns K O S N) : cf_L K O N 0 + cf_L K O N 1 + cf_L K O N 2 + cf_L K O N 3 + cf_L K O N 4 + cf_L K O N 5 + cf_L K O N 6 + cf_L K O N 7 ≤ 16 := by
  have h1 := cf_ct_le hB 32 (by decide)
  have h2 := cf_cs_le N 32 16
  have e0 : cf_ct (cf_lv K O N) 4 = 0 + cf_L K O N 0 := cf_ct_add _ 4 0
  have e1 : cf_ct (cf_lv K O N) 8 = cf_ct (cf_lv K O N) 4 + cf_L K O N 1 := cf_ct_add _ 4 4
  have e2 : cf_ct (cf_lv K O N) 12 = cf_ct (cf_lv K O N) 8 + cf_L K O N 2 := cf_ct_add _ 4 8
  have e3 : cf_ct (cf_lv K O N) 16 = cf_ct (cf_lv K O N) 12 + cf_L K O N 3 := cf_ct_add _ 4 12
  have e4 : cf_ct (cf_lv K O N) 20 = cf_ct (cf_lv K O N) 16 + cf_L K O N 4 := cf_ct_add _ 4 16
  have e5 : cf_ct (cf_lv K O N) 24 = cf_ct (cf_lv K O N) 20 + cf_L K O N 5 := cf_ct_add _ 4 20
  have e6 : cf_ct (cf_lv K O N) 28 = cf_ct (cf_lv K O N) 24 + cf_L K O N 6 := cf_ct_add _ 4 24
  have e7 : cf_ct (cf_lv K O N) 32 = cf_ct (cf_lv K O N) 28 + cf_L K O N 7 := cf_ct_add _ 4 28
  omega
theorem cf_L_two {ns : Nat} {K : Nat → Int32} {O S N : Nat → Nat} (hB : cf_B ns K O S N) {c v : Nat} (hc : c < 8) (h : ∀ b, b < 8 → b ≠ c → cf_L K O N v ≤ cf_L K O N b) : cf_L K O N v ≤ 2 := by
  have hs := cf_L_sum hB
  apply Decidable.byContradiction
  intro z
  have h0 : 0 ≠ c → cf_L K O N v ≤ cf_L K O N 0 := h 0 (by omega)
  have h1 : 1 ≠ c → cf_L K O N v ≤ cf_L K O N 1 := h 1 (by omega)
  have h2 : 2 ≠ c → cf_L K O N v ≤ cf_L K O N 2 := h 2 (by omega)
  have h3 : 3 ≠ c → cf_L K O N v ≤ cf_L K O N 3 := h 3 (by omega)
  have h4 : 4 ≠ c → cf_L K O N v ≤ cf_L K O N 4 := h 4 (by omega)
  have h5 : 5 ≠ c → cf_L K O N v ≤ cf_L K O N 5 := h 5 (by omega)
  have h6 : 6 ≠ c → cf_L K O N v ≤ cf_L K O N 6 := h 6 (by omega)
  have h7 : 7 ≠ c → cf_L K O N v ≤ cf_L K O N 7 := h 7 (by omega)
  clear h
  generalize cf_L K O N v = w at *
  generalize cf_L K O N 0 = l0 at *
  generalize cf_L K O N 1 = l1 at *
  generalize cf_L K O N 2 = l2 at *
  generalize cf_L K O N 3 = l3 at *
  generalize cf_L K O N 4 = l4 at *
  generalize cf_L K O N 5 = l5 at *
  generalize cf_L K O N 6 = l6 at *
  generalize cf_L K O N 7 = l7 at *
  have hcc : c = 0 ∨ c = 1 ∨ c = 2 ∨ c = 3 ∨ c = 4 ∨ c = 5 ∨ c = 6 ∨ c = 7 := by omega
  rcases hcc with e | e | e | e | e | e | e | e <;> subst e <;> omega
end
section
/-! the walks of freeBlock, livePages, leastLive, put -/
theorem cf_4b (b : Nat) : (4 : Int32) * nI b = nI (4 * b) := pk_mul 4 b
theorem cf_4b4 (b : Nat) : (4 : Int32) * nI b + 4 = nI (4 * b + 4) := by rw [cf_4b]; exact nI_add (4 * b) 4
theorem cf_4b3 (b : Nat) : (4 : Int32) * nI b + 3 = nI (4 * b + 3) := by rw [cf_4b]; exact nI_add (4 * b) 3
theorem cf_lv_le (K : Nat → Int32) (O N : Nat → Nat) (p : Nat) : cf_lv K O N p ≤ 1 := by
  unfold cf_lv; split
  · omega
  · split <;> omega
theorem cf_L_le (K : Nat → Int32) (O N : Nat → Nat) (b : Nat) : cf_L K O N b ≤ 4 := by
  have h0 := cf_lv_le K O N (4 * b)
  have h1 := cf_lv_le K O N (4 * b + 1)
  have h2 := cf_lv_le K O N (4 * b + 1 + 1)
  have h3 := cf_lv_le K O N (4 * b + 1 + 1 + 1)
  have e : cf_L K O N b = cf_lv K O N (4 * b) + (cf_lv K O N (4 * b + 1) + (cf_lv K O N (4 * b + 1 + 1) + (cf_lv K O N (4 * b + 1 + 1 + 1) + 0))) := rfl
  omega
section
variable {c f ns : Nat} {K W T : Nat → Int32} {O S N : Nat → Nat}
theorem cf_free_l {post : Int32 → Prop} (hc : c < 8) (h1 : ∀ b, b < 8 → b ≠ c → K (4 * b) = 0 → post (nI b)) (h2 : (∀ b, b < 8 → b ≠ c → K (4 * b) ≠ 0) → post (-1)) : ∀ d j : Nat, j + d = 8 → (∀ b, b < j → b ≠ c → K (4 * b) ≠ 0) → wX_freeBlock_2 post (nI c) (nI f) (lN ns) K (fun p => nI (O p)) (fun p => lN (S p)) W T (fun s => nI (N s) - 1) (d + 1) (nI j) := by
  intro d
  induction d with
  | zero =>
    intro j e hj
    have e2 : j = 8 := by omega
    subst e2
    exact br_t (nI_le (a := 8) (b := 8) (by omega) (by omega)) (h2 hj)
  | succ d ih =>
    intro j e hj
    refine br_f (nI_ge (b := 8) (by omega) (by decide)) ?_
    refine pk_eq j c (fun ec => ?_) (fun ec => ⟨pk_in (4 * j) 32 (by omega) (cf_4b j), ?_⟩)
    · refine nm_r (nI_1 j) (ih (j + 1) (by omega) (fun b hb hbc => hj b (by omega) hbc))
    · rw [cf_4b j, nI_clamp (by omega)]
      refine br_c (fun z => h1 j (by omega) ec z) (fun z => nm_r (nI_1 j) (ih (j + 1) (by omega) (fun b hb hbc => ?_)))
      by_cases eb : b = j
      · rw [eb]; exact z
      · exact hj b (by omega) hbc
theorem cf_w_free {post : Int32 → Prop} (hc : c < 8) (h1 : ∀ b, b < 8 → b ≠ c → K (4 * b) = 0 → post (nI b)) (h2 : (∀ b, b < 8 → b ≠ c → K (4 * b) ≠ 0) → post (-1)) : wpX_freeBlock post (nI c, nI f, lN ns, K, (fun p => nI (O p)), (fun p => lN (S p)), W, T, (fun s => nI (N s) - 1)) := ⟨9, cf_free_l hc h1 h2 8 0 rfl (fun b hb => absurd hb (by omega))⟩
theorem cf_live_l {post : Int32 → Prop} {b R : Nat} (hb : b < 8) (hN : ∀ p, p < 32 → K p ≠ 0 → O p < 16 ∧ N (O p) ≤ 32) (h : post (nI R)) : ∀ d j a : Nat, j + d = 4 → a + cf_sm (cf_lv K O N) (4 * b + j) d = R → wX_livePages_6 post (nI b) (nI c) (nI f) (lN ns) K (fun p => nI (O p)) (fun p => lN (S p)) W T (fun s => nI (N s) - 1) (d + 1) (nI a) (nI (4 * b + j)) := by
  intro d
  induction d with
  | zero =>
    intro j a e hR
    have hR' : a = R := hR
    subst hR'
    exact pk_le (4 * b + 4) (4 * b + j) (fun _ => h) (fun z => absurd z (by omega)) (cf_4b4 b)
  | succ d ih =>
    intro j a e hR
    rw [cf_sm_s] at hR
    have hp : 4 * b + j < 32 := by omega
    refine pk_le (4 * b + 4) (4 * b + j) (fun z => absurd z (by omega)) (fun _ => ⟨vp_in_nI hp (by omega), ?_⟩) (cf_4b4 b)
    rw [nI_clamp (show 4 * b + j < 2 ^ 31 by omega)]
    by_cases z : K (4 * b + j) = 0
    · rw [cf_lv_0 z] at hR
      exact br_t z (nm_r (Int32.add_zero _) (nm_r (nI_1 _) (ih (j + 1) a (by omega) (by rw [← hR, Nat.zero_add]; rfl))))
    · obtain ⟨o1, o2⟩ := hN _ hp z
      refine br_f z ⟨vp_in_nI hp (by omega), vp_in_nI o1 (by omega), ?_⟩
      dsimp only
      rw [nI_clamp (show O (4 * b + j) < 2 ^ 31 by omega)]
      by_cases y : N (O (4 * b + j)) = 4 * b + j + 1
      · rw [cf_lv_1 z y] at hR
        exact br_t ((cf_mp o2 hp).mpr y) (nm_r (nI_1 a) (nm_r (nI_1 _) (ih (j + 1) (a + 1) (by omega) (by rw [← hR, Nat.add_assoc]; rfl))))
      · rw [cf_lv_n z y] at hR
        exact br_f (fun q => y ((cf_mp o2 hp).mp q)) (nm_r (Int32.add_zero _) (nm_r (nI_1 _) (ih (j + 1) a (by omega) (by rw [← hR, Nat.zero_add]; rfl))))
theorem cf_w_live {post : Int32 → Prop} {b : Nat} (hb : b < 8) (hN : ∀ p, p < 32 → K p ≠ 0 → O p < 16 ∧ N (O p) ≤ 32) (h : post (nI (cf_L K O N b))) : wpX_livePages post (nI c, nI f, lN ns, K, (fun p => nI (O p)), (fun p => lN (S p)), W, T, (fun s => nI (N s) - 1)) (nI b) := nm_r (cf_4b b) ⟨5, cf_live_l hb hN h 4 0 0 rfl (Nat.zero_add _)⟩
def cf_bst (c : Nat) (K : Nat → Int32) (O N : Nat → Nat) (j : Nat) (x : Int32) : Prop := (x = -1 ∧ ∀ b, b < j → b ≠ c → K (4 * b) = 0) ∨ ∃ v, x = nI v ∧ v < 8 ∧ v ≠ c ∧ K (4 * v) ≠ 0 ∧ ∀ b, b < j → b ≠ c → K (4 * b) ≠ 0 → cf_L K O N v ≤ cf_L K O N b
theorem cf_bst_skip {j : Nat} {x : Int32} (h : cf_bst c K O N j x) (hj : j ≠ c → K (4 * j) = 0) : cf_bst c K O N (j + 1) x := by
  rcases h with ⟨e, h⟩ | ⟨v, e, h1, h2, h3, h4⟩
  · refine Or.inl ⟨e, fun b hb hbc => ?_⟩
    by_cases eb : b = j
    · subst eb; exact hj hbc
    · exact h b (by omega) hbc
  · refine Or.inr ⟨v, e, h1, h2, h3, fun b hb hbc hK => ?_⟩
    by_cases eb : b = j
    · subst eb; exact absurd (hj hbc) hK
    · exact h4 b (by omega) hbc hK
theorem cf_least_l {post : Int32 → Prop} (hc : c < 8) (hN : ∀ p, p < 32 → K p ≠ 0 → O p < 16 ∧ N (O p) ≤ 32) (h : ∀ x, cf_bst c K O N 8 x → post x) : ∀ (d j : Nat) (x : Int32), j + d = 8 → cf_bst c K O N j x → wX_leastLive_4 post (nI c) (nI f) (lN ns) K (fun p => nI (O p)) (fun p => lN (S p)) W T (fun s => nI (N s) - 1) (d + 1) x (nI j) := by
  intro d
  induction d with
  | zero =>
    intro j x e I
    have e2 : j = 8 := by omega
    subst e2
    exact br_t (nI_le (a := 8) (b := 8) (by omega) (by omega)) (h x I)
  | succ d ih =>
    intro j x e I
    refine br_f (nI_ge (b := 8) (by omega) (by decide)) ?_
    refine pk_eq j c (fun ec => ?_) (fun ec => ⟨pk_in (4 * j) 32 (by omega) (cf_4b j), ?_⟩)
    · exact nm_r (nI_1 j) (ih (j + 1) x (by omega) (cf_bst_skip I (fun n => absurd ec n)))
    · rw [cf_4b j, nI_clamp (by omega)]
      by_cases z : K (4 * j) = 0
      · exact br_t z (nm_r (nI_1 j) (ih (j + 1) x (by omega) (cf_bst_skip I (fun _ => z))))
      · refine br_f z (cf_w_live (by omega) hN ?_)
        rcases I with ⟨ex, I⟩ | ⟨v, ex, v1, v2, v3, v4⟩
        · refine br_t (by rw [ex]; decide) (nm_r (nI_1 j) (ih (j + 1) (nI j) (by omega) (Or.inr ⟨j, rfl, by omega, ec, z, fun b hb hbc hK => ?_⟩)))
          by_cases eb : b = j
          · rw [eb]; exact Nat.le_refl _
          · exact absurd (I b (by omega) hbc) hK
        · subst ex
          refine br_f (nI_pos (by omega)) (cf_w_live v1 hN ?_)
          have l1 := cf_L_le K O N v
          have l2 := cf_L_le K O N j
          refine pk_le (cf_L K O N v) (cf_L K O N j) (fun le => ?_) (fun le => ?_)
          · refine nm_r (nI_1 j) (ih (j + 1) (nI v) (by omega) (Or.inr ⟨v, rfl, v1, v2, v3, fun b hb hbc hK => ?_⟩))
            by_cases eb : b = j
            · rw [eb]; exact le
            · exact v4 b (by omega) hbc hK
          · refine nm_r (nI_1 j) (ih (j + 1) (nI j) (by omega) (Or.inr ⟨j, rfl, by omega, ec, z, fun b hb hbc hK => ?_⟩))
            by_cases eb : b = j
            · rw [eb]; exact Nat.le_refl _
            · have := v4 b (by omega) hbc hK
              omega
theorem cf_w_least {post : Int32 → Prop} (hc : c < 8) (hN : ∀ p, p < 32 → K p ≠ 0 → O p < 16 ∧ N (O p) ≤ 32) (h : ∀ x, cf_bst c K O N 8 x → post x) : wpX_leastLive post (nI c, nI f, lN ns, K, (fun p => nI (O p)), (fun p => lN (S p)), W, T, (fun s => nI (N s) - 1)) := ⟨9, cf_least_l hc hN h 8 0 (-1) rfl (Or.inl ⟨rfl, fun b hb => absurd hb (by omega)⟩)⟩
theorem cf_w_put {post : SX → Prop} {s : Nat} {k w t : Int32} (hq : 4 * c + f < 32) (hs : s < 16) (h : post (nI c, nI (f + 1), lN (ns + 1), upd K (4 * c + f) k, (fun p => nI (cf_u O (4 * c + f) s p)), (fun p => lN (cf_u S (4 * c + f) ns p)), upd W (4 * c + f) w, upd T (4 * c + f) t, (fun j => nI (cf_u N s (4 * c + f + 1) j) - 1))) : wpX_put post (nI c, nI f, lN ns, K, (fun p => nI (O p)), (fun p => lN (S p)), W, T, (fun s => nI (N s) - 1)) (nI s) k w t := by
  have hi : vp_in (nI (4 * c + f)) 32 := vp_in_nI hq (by omega)
  have hc : (nI (4 * c + f)).toNatClampNeg = 4 * c + f := nI_clamp (by omega)
  have hd : (nI s).toNatClampNeg = s := nI_clamp (by omega)
  refine nm_r (e' := nI (4 * c + f)) (by rw [cf_4b, nI_add]) ⟨hi, ?_⟩
  rw [hc]
  refine nm_e ⟨hi, nm_r (cf_uI O (4 * c + f) s) ⟨hi, nm_r (cf_uL S (4 * c + f) ns) ⟨hi, nm_e ⟨hi, nm_e (nm_r (lN_1 ns) (nm_r (nI_1 f) ⟨vp_in_nI hs (by omega), ?_⟩))⟩⟩⟩⟩
  rw [hd]
  exact nm_r (cf_uM N s (4 * c + f)) h
end
end
section
/-! gather, plain and walk -/
/-- the current block is written up to f; every other block is erased or full -/
def cf_C0 (c f : Nat) (K : Nat → Int32) : Prop := c < 8 ∧ f ≤ 4 ∧ (∀ j, j < 4 → (K (4 * c + j) ≠ 0 ↔ j < f)) ∧ ∀ b, b < 8 → b ≠ c → ∀ j, j < 4 → (K (4 * b + j) = 0 ↔ K (4 * b) = 0)
/-- a free block beside the current one -/
def cf_Fr (c : Nat) (K : Nat → Int32) : Prop := ∃ b, b < 8 ∧ b ≠ c ∧ K (4 * b) = 0
theorem cf_hN {ns : Nat} {K : Nat → Int32} {O S N : Nat → Nat} (hB : cf_B ns K O S N) : ∀ p, p < 32 → K p ≠ 0 → O p < 16 ∧ N (O p) ≤ 32 := fun p hp hK => ⟨(hB.1 p hp hK).1, (hB.2 _ (hB.1 p hp hK).1).1⟩
theorem cf_nl_put {K : Nat → Int32} {O N : Nat → Nat} {q s r : Nat} {k : Int32} (hr : r ≠ q) (h : O r = s ∨ (K r ≠ 0 → N (O r) ≠ r + 1)) : upd K q k r ≠ 0 → cf_u N s (q + 1) (cf_u O q s r) ≠ r + 1 := by
  have e1 : upd K q k r = K r := pk_un hr
  have e2 : cf_u O q s r = O r := cf_un hr
  rw [e1, e2]
  intro hK
  by_cases es : O r = s
  · rw [es, cf_us]; omega
  · rw [cf_un es]
    rcases h with h | h
    · exact absurd h es
    · exact h hK
theorem cf_blk_put {K : Nat → Int32} {c f : Nat} {k : Int32} (h : ∀ j, j < 4 → (K (4 * c + j) ≠ 0 ↔ j < f)) (hk : k ≠ 0) : ∀ j, j < 4 → (upd K (4 * c + f) k (4 * c + j) ≠ 0 ↔ j < f + 1) := by
  intro j hj
  by_cases e : j = f
  · subst e
    rw [pk_us]
    exact ⟨fun _ => by omega, fun _ => hk⟩
  · rw [pk_un (by omega), h j hj]
    omega
section
variable {c f ns : Nat} {K W T : Nat → Int32} {O S N : Nat → Nat}
theorem cf_gath88 {post : SX → Prop} {b : Nat} (hb : b < 8) (K0 : Nat → Int32) (d0 : Nat → Int32 × Int32 × Int32)
    (h : ∀ K : Nat → Int32, cf_B ns K O S N → (∀ j, j < 4 → K (4 * b + j) = 0) → (∀ p, (p < 4 * b ∨ 4 * b + 4 ≤ p) → K p = K0 p) → (∀ s, s < 16 → cf_d K W T N s = d0 s) → post (nI c, nI f, lN ns, K, (fun p => nI (O p)), (fun p => lN (S p)), W, T, (fun s => nI (N s) - 1))) :
    ∀ (d j : Nat) (K : Nat → Int32), j + d = 4 → cf_B ns K O S N → (∀ i, i < 4 → K (4 * b + i) ≠ 0 → N (O (4 * b + i)) ≠ 4 * b + i + 1) → (∀ i, i < j → K (4 * b + i) = 0) → (∀ p, (p < 4 * b ∨ 4 * b + 4 ≤ p) → K p = K0 p) → (∀ s, s < 16 → cf_d K W T N s = d0 s) → wX_gather_88 post (nI b) (nI c) (nI f) (lN ns) (d + 1) (nI (4 * b + j)) K (fun p => nI (O p)) (fun p => lN (S p)) W T (fun s => nI (N s) - 1) := by
  intro d
  induction d with
  | zero =>
    intro j K e hB _ hz ho hd
    have e2 : j = 4 := by omega
    subst e2
    exact pk_le (4 * b + 4) (4 * b + 4) (fun _ => h K hB hz ho hd) (fun z => absurd z (by omega)) (cf_4b4 b)
  | succ d ih =>
    intro j K e hB hl hz ho hd
    have hp : 4 * b + j < 32 := by omega
    refine pk_le (4 * b + 4) (4 * b + j) (fun z => absurd z (by omega)) (fun _ => ⟨vp_in_nI hp (by omega), ?_⟩) (cf_4b4 b)
    rw [nI_clamp (show 4 * b + j < 2 ^ 31 by omega)]
    have hl' := hl j (by omega)
    refine nm_e (nm_r (nI_1 _) (ih (j + 1) (upd K (4 * b + j) 0) (by omega) (cf_B_erase hB hl') (fun i hi => ?_) (fun i hi => ?_) (fun p hp' => ?_) (fun s hs => ?_)))
    · by_cases ei : i = j
      · subst ei
        rw [pk_us]
        exact fun z => absurd rfl z
      · rw [pk_un (by omega)]
        exact hl i hi
    · by_cases ei : i = j
      · subst ei
        exact pk_us
      · rw [pk_un (by omega)]
        exact hz i (by omega)
    · rw [pk_un (by omega)]
      exact ho p hp'
    · rw [cf_d_erase hB hl' hs]
      exact hd s hs
theorem cf_gath9 {post : SX → Prop} {b M e0 : Nat} (hb : b < 8) (hc : c < 8) (hbc : b ≠ c) (hM : M ≤ 4) (K0 : Nat → Int32) (d0 : Nat → Int32 × Int32 × Int32)
    (h : ∀ (f ns : Nat) (K : Nat → Int32) (O S : Nat → Nat) (W T : Nat → Int32) (N : Nat → Nat), cf_B ns K O S N → f ≤ M → e0 ≤ ns → ns ≤ e0 + f → (∀ j, j < 4 → (K (4 * c + j) ≠ 0 ↔ j < f)) → (∀ p, (p < 4 * c ∨ 4 * c + 4 ≤ p) → K p = K0 p) → (∀ s, s < 16 → cf_d K W T N s = d0 s) → (∀ i, i < 4 → K (4 * b + i) ≠ 0 → N (O (4 * b + i)) ≠ 4 * b + i + 1) → ∃ n, wX_gather_88 post (nI b) (nI c) (nI f) (lN ns) n (nI (4 * b)) K (fun p => nI (O p)) (fun p => lN (S p)) W T (fun s => nI (N s) - 1)) :
    ∀ (d j : Nat) (f ns : Nat) (K : Nat → Int32) (O S : Nat → Nat) (W T : Nat → Int32) (N : Nat → Nat), j + d = 4 → cf_B ns K O S N → f + cf_sm (cf_lv K O N) (4 * b + j) d ≤ M → e0 ≤ ns → ns ≤ e0 + f → (∀ j, j < 4 → (K (4 * c + j) ≠ 0 ↔ j < f)) → (∀ p, (p < 4 * c ∨ 4 * c + 4 ≤ p) → K p = K0 p) → (∀ s, s < 16 → cf_d K W T N s = d0 s) → (∀ i, i < j → K (4 * b + i) ≠ 0 → N (O (4 * b + i)) ≠ 4 * b + i + 1) → wX_gather_9 post (nI b) (d + 1) (nI (4 * b + j)) (nI c) (nI f) (lN ns) K (fun p => nI (O p)) (fun p => lN (S p)) W T (fun s => nI (N s) - 1) := by
  intro d
  induction d with
  | zero =>
    intro j f ns K O S W T N e hB hS n1 n2 h4 ho hd hl
    have e2 : j = 4 := by omega
    subst e2
    have hS' : f ≤ M := hS
    exact pk_le (4 * b + 4) (4 * b + 4) (fun _ => nm_r (cf_4b b) (h f ns K O S W T N hB hS' n1 n2 h4 ho hd hl)) (fun z => absurd z (by omega)) (cf_4b4 b)
  | succ d ih =>
    intro j f ns K O S W T N e hB hS n1 n2 h4 ho hd hl
    rw [cf_sm_s] at hS
    have hp : 4 * b + j < 32 := by omega
    have hi : vp_in (nI (4 * b + j)) 32 := vp_in_nI hp (by omega)
    refine pk_le (4 * b + 4) (4 * b + j) (fun z => absurd z (by omega)) (fun _ => ⟨hi, ?_⟩) (cf_4b4 b)
    rw [nI_clamp (show 4 * b + j < 2 ^ 31 by omega)]
    have skip : (K (4 * b + j) ≠ 0 → N (O (4 * b + j)) ≠ 4 * b + j + 1) → wX_gather_9 post (nI b) (d + 1) (nI (4 * b + (j + 1))) (nI c) (nI f) (lN ns) K (fun p => nI (O p)) (fun p => lN (S p)) W T (fun s => nI (N s) - 1) := fun hj => by
      refine ih (j + 1) f ns K O S W T N (by omega) hB ?_ n1 n2 h4 ho hd (fun i hi => ?_)
      · have e1 : 4 * b + (j + 1) = 4 * b + j + 1 := by omega
        rw [e1]
        omega
      · by_cases ei : i = j
        · subst ei; exact hj
        · exact hl i (by omega)
    by_cases z : K (4 * b + j) = 0
    · exact br_t z (nm_r (nI_1 _) (skip (fun y => absurd z y)))
    · obtain ⟨o1, o2⟩ := cf_hN hB _ hp z
      refine br_f z ⟨hi, vp_in_nI o1 (by omega), ?_⟩
      dsimp only
      rw [nI_clamp (show O (4 * b + j) < 2 ^ 31 by omega)]
      by_cases y : N (O (4 * b + j)) = 4 * b + j + 1
      · rw [cf_lv_1 z y] at hS
        have hf : f < 4 := by omega
        refine br_t ((cf_mp o2 hp).mpr y) (br_f (nI_ge (b := 4) hf (by decide)) ⟨hi, hi, hi, hi, cf_w_put (by omega) o1 ?_⟩)
        have hK : K (4 * c + f) = 0 := Decidable.byContradiction (fun w => absurd ((h4 f hf).mp w) (by omega))
        refine nm_r (nI_1 _) (ih (j + 1) (f + 1) (ns + 1) (upd K (4 * c + f) (K (4 * b + j))) (cf_u O (4 * c + f) (O (4 * b + j))) (cf_u S (4 * c + f) ns) (upd W (4 * c + f) (W (4 * b + j))) (upd T (4 * c + f) (T (4 * b + j))) (cf_u N (O (4 * b + j)) (4 * c + f + 1)) (by omega) (cf_B_put hB (by omega) o1 hK z) ?_ (by omega) (by omega) (cf_blk_put h4 z) (fun p hp' => ?_) (fun s hs => ?_) (fun i hi => ?_))
        · have hm := cf_sm_mono (g := cf_lv (upd K (4 * c + f) (K (4 * b + j))) (cf_u O (4 * c + f) (O (4 * b + j))) (cf_u N (O (4 * b + j)) (4 * c + f + 1))) (h := cf_lv K O N) d (4 * b + j + 1) (fun p h1 h2 => cf_lv_put (by omega))
          have e1 : 4 * b + (j + 1) = 4 * b + j + 1 := by omega
          rw [e1]
          omega
        · rw [pk_un (by omega)]
          exact ho p hp'
        · by_cases es : s = O (4 * b + j)
          · subst es
            rw [cf_d_put, ← hd _ hs, cf_d_n (by rw [y]; omega), y, Nat.add_sub_cancel]
          · rw [cf_d_put_n hB hK hs es]
            exact hd s hs
        · refine cf_nl_put (by omega) ?_
          by_cases ei : i = j
          · subst ei; exact Or.inl rfl
          · exact Or.inr (hl i (by omega))
      · exact br_f (fun q => y ((cf_mp o2 hp).mp q)) (nm_r (nI_1 _) (skip (fun _ => y)))
theorem cf_w_gather {post : SX → Prop} {b M : Nat} (hb : b < 8) (hbc : b ≠ c) (hB : cf_B ns K O S N) (hC : cf_C0 c f K) (hM : f + cf_L K O N b ≤ M) (hM4 : M ≤ 4)
    (h : ∀ (f1 ns1 : Nat) (K1 : Nat → Int32) (O1 S1 : Nat → Nat) (W1 T1 : Nat → Int32) (N1 : Nat → Nat), cf_B ns1 K1 O1 S1 N1 → cf_C0 c f1 K1 → cf_Fr c K1 → f1 ≤ M → ns ≤ ns1 → ns1 ≤ ns + 4 → (∀ s, s < 16 → cf_d K1 W1 T1 N1 s = cf_d K W T N s) → post (nI c, nI f1, lN ns1, K1, (fun p => nI (O1 p)), (fun p => lN (S1 p)), W1, T1, (fun s => nI (N1 s) - 1))) : wpX_gather post (nI c, nI f, lN ns, K, (fun p => nI (O p)), (fun p => lN (S p)), W, T, (fun s => nI (N s) - 1)) (nI b) := by
  obtain ⟨hc, hf, h4, hu⟩ := hC
  refine br_t (nI_pos' (by omega)) (nm_r (cf_4b b) ⟨5, cf_gath9 (c := c) (e0 := ns) hb hc hbc hM4 K (cf_d K W T N) (fun f1 ns1 K1 O1 S1 W1 T1 N1 hB1 m1 n1 n2 h41 ho1 hd1 hl1 => ⟨5, ?_⟩) 4 0 f ns K O S W T N rfl hB hM (Nat.le_refl _) (by omega) h4 (fun _ _ => rfl) (fun _ _ => rfl) (fun i hi => absurd hi (by omega))⟩)
  refine cf_gath88 hb K1 (cf_d K W T N) (fun K2 hB2 hz2 ho2 hd2 => ?_) 4 0 K1 rfl hB1 hl1 (fun i hi => absurd hi (by omega)) (fun _ _ => rfl) hd1
  refine h f1 ns1 K2 O1 S1 W1 T1 N1 hB2 ⟨hc, by omega, fun j hj => ?_, fun b2 hb2 hbc2 j hj => ?_⟩ ⟨b, hb, hbc, hz2 0 (by omega)⟩ m1 n1 (by omega) hd2
  · rw [ho2 _ (by omega)]
    exact h41 j hj
  · by_cases eb : b2 = b
    · subst eb
      have h0 : K2 (4 * b2) = 0 := hz2 0 (by omega)
      rw [hz2 j hj, h0]
    · rw [ho2 _ (by omega), ho2 (4 * b2) (by omega), ho1 _ (by omega), ho1 (4 * b2) (by omega)]
      exact hu b2 hb2 hbc2 j hj
end
end
section
/-! program -/
/-- what is asked behind a page written for sector s -/
def cf_PQ (s : Nat) (k w t : Int32) (ns : Nat) (d : Nat → Int32 × Int32 × Int32) (post : SX → Prop) : Prop := ∀ (c1 f1 ns1 : Nat) (K1 : Nat → Int32) (O1 S1 : Nat → Nat) (W1 T1 : Nat → Int32) (N1 : Nat → Nat), cf_B ns1 K1 O1 S1 N1 → cf_C0 c1 f1 K1 → cf_Fr c1 K1 → ns ≤ ns1 → ns1 ≤ ns + 5 → cf_d K1 W1 T1 N1 s = (k, w, t) → (∀ r, r < 16 → r ≠ s → cf_d K1 W1 T1 N1 r = d r) → post (nI c1, nI f1, lN ns1, K1, (fun p => nI (O1 p)), (fun p => lN (S1 p)), W1, T1, (fun s => nI (N1 s) - 1))
section
variable {c f ns : Nat} {K W T : Nat → Int32} {O S N : Nat → Nat}
theorem cf_w_p40 {post : SX → Prop} {s n0 : Nat} {k w t : Int32} {d : Nat → Int32 × Int32 × Int32} (hs : s < 16) (hk : k ≠ 0) (hf : f < 4) (hB : cf_B ns K O S N) (hC : cf_C0 c f K) (hF : cf_Fr c K) (n1 : n0 ≤ ns) (n2 : ns ≤ n0 + 4) (hd : ∀ r, r < 16 → cf_d K W T N r = d r) (h : cf_PQ s k w t n0 d post) : wX_program_40 post (nI s) k w t (nI c) (nI f) (lN ns) K (fun p => nI (O p)) (fun p => lN (S p)) W T (fun s => nI (N s) - 1) := by
  obtain ⟨hc, _, h4, hu⟩ := hC
  obtain ⟨b, hb, hbc, hK0⟩ := hF
  have hK : K (4 * c + f) = 0 := Decidable.byContradiction (fun w => absurd ((h4 f hf).mp w) (by omega))
  refine cf_w_put (by omega) hs ?_
  refine h c (f + 1) (ns + 1) (upd K (4 * c + f) k) (cf_u O (4 * c + f) s) (cf_u S (4 * c + f) ns) (upd W (4 * c + f) w) (upd T (4 * c + f) t) (cf_u N s (4 * c + f + 1)) (cf_B_put hB (by omega) hs hK hk) ⟨hc, by omega, cf_blk_put h4 hk, fun b2 hb2 hbc2 j hj => ?_⟩ ⟨b, hb, hbc, ?_⟩ (by omega) (by omega) cf_d_put (fun r hr hrs => ?_)
  · rw [pk_un (by omega), pk_un (by omega)]
    exact hu b2 hb2 hbc2 j hj
  · rw [pk_un (by omega)]
    exact hK0
  · rw [cf_d_put_n hB hK hr hrs]
    exact hd r hr
theorem cf_C0_free {b : Nat} (hC : cf_C0 c 4 K) (hb : b < 8) (hbc : b ≠ c) (hK : K (4 * b) = 0) : cf_C0 b 0 K := by
  obtain ⟨hc, _, h4, hu⟩ := hC
  refine ⟨hb, by omega, fun j hj => ⟨fun z => absurd ((hu b hb hbc j hj).mpr hK) z, fun z => absurd z (by omega)⟩, fun b2 hb2 hbb j hj => ?_⟩
  by_cases e : b2 = c
  · subst e
    have h0 := (h4 0 (by omega)).mpr (by omega)
    exact ⟨fun z => absurd z ((h4 j hj).mpr hj), fun z => absurd z h0⟩
  · exact hu b2 hb2 e j hj
theorem cf_w_prog {post : SX → Prop} {s : Nat} {k w t : Int32} (hs : s < 16) (hk : k ≠ 0) (hB : cf_B ns K O S N) (hC : cf_C0 c f K) (hF : cf_Fr c K) (h : cf_PQ s k w t ns (cf_d K W T N) post) : wpX_program post (nI c, nI f, lN ns, K, (fun p => nI (O p)), (fun p => lN (S p)), W, T, (fun s => nI (N s) - 1)) (nI s) k w t := by
  have hc := hC.1
  have hf := hC.2.1
  refine pk_eq f 4 (fun e => ?_) (fun e => ?_)
  · subst e
    refine cf_w_free hc (fun b hb hbc hK => ?_) (fun z => ?_)
    · have hC2 := cf_C0_free hC hb hbc hK
      refine cf_w_free (c := b) (f := 0) hb (fun b1 hb1 hbb hK1 => ?_) (fun z => ?_)
      · exact br_t (nI_pos' (by omega)) (cf_w_p40 (c := b) (f := 0) hs hk (by omega) hB hC2 ⟨b1, hb1, hbb, hK1⟩ (Nat.le_refl _) (by omega) (fun _ _ => rfl) h)
      · refine br_f (by decide) (cf_w_least (c := b) (f := 0) hb (cf_hN hB) (fun x I => ?_))
        rcases I with ⟨_, I⟩ | ⟨v, ex, v1, v2, v3, v4⟩
        · exact absurd (I c hc (fun y => hbc y.symm)) (z c hc (fun y => hbc y.symm))
        · subst ex
          have hL : cf_L K O N v ≤ 2 := cf_L_two hB hb (fun b' h1 h2 => v4 b' h1 h2 (z b' h1 h2))
          refine cf_w_gather (c := b) (f := 0) (M := 2) v1 v2 hB hC2 (by omega) (by omega) (fun f1 ns1 K1 O1 S1 W1 T1 N1 hB1 hC1 hF1 m1 n1 n2 hd1 => ?_)
          exact cf_w_p40 (c := b) hs hk (by omega) hB1 hC1 hF1 n1 n2 hd1 h
    · obtain ⟨b, hb, hbc, hK⟩ := hF
      exact absurd hK (z b hb hbc)
  · exact cf_w_p40 hs hk (by omega) hB hC hF (Nat.le_refl _) (by omega) (fun _ _ => rfl) h
end
end
section
/-! power and findCurrent -/
def cf_nz (K : Nat → Int32) (p : Nat) : Nat := if K p = 0 then 0 else 1
theorem cf_nz_0 {K : Nat → Int32} {p : Nat} (h : K p = 0) : cf_nz K p = 0 := if_pos h
theorem cf_nz_1 {K : Nat → Int32} {p : Nat} (h : K p ≠ 0) : cf_nz K p = 1 := if_neg h
theorem cf_cnt {K : Nat → Int32} {c f : Nat} (h : ∀ j, j < 4 → (K (4 * c + j) ≠ 0 ↔ j < f)) (hf : f ≤ 4) : cf_sm (cf_nz K) (4 * c) 4 = f := by
  have e : ∀ j, j < 4 → cf_nz K (4 * c + j) = if j < f then 1 else 0 := fun j hj => by
    by_cases z : j < f
    · rw [if_pos z, cf_nz_1 ((h j hj).mpr z)]
    · rw [if_neg z, cf_nz_0 (Decidable.byContradiction (fun y => z ((h j hj).mp y)))]
  have e0 : cf_nz K (4 * c) = _ := e 0 (by omega)
  have e1 : cf_nz K (4 * c + 1) = _ := e 1 (by omega)
  have e2 : cf_nz K (4 * c + 1 + 1) = _ := e 2 (by omega)
  have e3 : cf_nz K (4 * c + 1 + 1 + 1) = _ := e 3 (by omega)
  rw [cf_sm_s, cf_sm_s, cf_sm_s, cf_sm_s, e0, e1, e2, e3]
  show _ + (_ + (_ + (_ + 0))) = f
  have hh : f = 0 ∨ f = 1 ∨ f = 2 ∨ f = 3 ∨ f = 4 := by omega
  rcases hh with q | q | q | q | q <;> subst q <;> rfl
def cf_i12 (K : Nat → Int32) (j c : Nat) : Prop := K (4 * c) ≠ 0 ∨ (c = 0 ∧ ∀ b, b < j → K (4 * b) = 0)
def cf_i49 (K : Nat → Int32) (j c : Nat) : Prop := (K (4 * c) ≠ 0 ∧ K (4 * c + 3) = 0) ∨ (cf_i12 K 8 c ∧ ∀ b, b < j → K (4 * b) ≠ 0 → K (4 * b + 3) ≠ 0)
theorem cf_found {K : Nat → Int32} {c f c1 f1 : Nat} (hC : cf_C0 c f K) (hF : cf_Fr c K) (h1 : c1 < 8) (I : cf_i49 K 8 c1) (hf1 : cf_sm (cf_nz K) (4 * c1) 4 = f1) : cf_C0 c1 f1 K ∧ cf_Fr c1 K := by
  obtain ⟨hc, hf, h4, hu⟩ := hC
  rcases I with ⟨a, b⟩ | ⟨a, b⟩
  · have e : c1 = c := Decidable.byContradiction (fun z => a ((hu c1 h1 z 3 (by omega)).mp b))
    subst e
    rw [cf_cnt h4 hf] at hf1
    subst hf1
    exact ⟨⟨hc, hf, h4, hu⟩, hF⟩
  · have U : ∀ b, b < 8 → ∀ j, j < 4 → (K (4 * b + j) = 0 ↔ K (4 * b) = 0) := by
      intro b2 hb2 j hj
      by_cases e : b2 = c
      · subst e
        have h0 : K (4 * b2) ≠ 0 ↔ 0 < f := h4 0 (by omega)
        by_cases z : K (4 * b2) = 0
        · have hf0 : ¬ 0 < f := fun y => h0.mpr y z
          refine ⟨fun _ => z, fun _ => ?_⟩
          exact Decidable.byContradiction (fun y => absurd ((h4 j hj).mp y) (by omega))
        · have h3 := (h4 3 (by omega)).mp (b b2 hb2 z)
          exact ⟨fun y => absurd y ((h4 j hj).mpr (by omega)), fun y => absurd y z⟩
      · exact hu b2 hb2 e j hj
    by_cases z : K (4 * c1) = 0
    · rcases a with a | ⟨a1, a2⟩
      · exact absurd z a
      · have hz : ∀ j, j < 4 → (K (4 * c1 + j) ≠ 0 ↔ j < 0) := fun j hj => ⟨fun y => absurd ((U c1 h1 j hj).mpr z) y, fun y => absurd y (by omega)⟩
        rw [cf_cnt hz (by omega)] at hf1
        subst hf1
        exact ⟨⟨h1, by omega, hz, fun b2 hb2 _ => U b2 hb2⟩, ⟨1, by omega, by omega, a2 1 (by omega)⟩⟩
    · have hz : ∀ j, j < 4 → (K (4 * c1 + j) ≠ 0 ↔ j < 4) := fun j hj => ⟨fun _ => hj, fun _ y => z ((U c1 h1 j hj).mp y)⟩
      rw [cf_cnt hz (by omega)] at hf1
      subst hf1
      obtain ⟨b2, hb2, _, hK2⟩ := hF
      exact ⟨⟨h1, by omega, hz, fun b2 hb2 _ => U b2 hb2⟩, ⟨b2, hb2, fun y => z (by rw [← y]; exact hK2), hK2⟩⟩
/-- the map built up again out of the pages below i -/
def cf_P (K : Nat → Int32) (O S : Nat → Nat) (i m : Nat) (N : Nat → Nat) : Prop :=
  (∀ p, p < i → K p ≠ 0 → S p < m ∧ N (O p) ≠ 0 ∧ S p ≤ S (N (O p) - 1)) ∧ (∀ s, s < 16 → N s ≠ 0 → N s ≤ i ∧ K (N s - 1) ≠ 0 ∧ O (N s - 1) = s)
section
variable {K : Nat → Int32} {O S N : Nat → Nat}
theorem cf_P_skip {i m : Nat} (I : cf_P K O S i m N) (z : K i = 0) : cf_P K O S (i + 1) m N := by
  refine ⟨fun p hp hK => ?_, fun s hs h0 => ?_⟩
  · by_cases e : p = i
    · subst e; exact absurd z hK
    · exact I.1 p (by omega) hK
  · have := I.2 s hs h0
    exact ⟨by omega, this.2⟩
theorem cf_P_keep {i m m' : Nat} (I : cf_P K O S i m N) (hN : N (O i) ≠ 0) (hS : S i ≤ S (N (O i) - 1)) (hm : m ≤ m') (hi : S i < m') : cf_P K O S (i + 1) m' N := by
  refine ⟨fun p hp hK => ?_, fun s hs h0 => ?_⟩
  · by_cases e : p = i
    · subst e; exact ⟨hi, hN, hS⟩
    · have := I.1 p (by omega) hK
      exact ⟨by omega, this.2⟩
  · have := I.2 s hs h0
    exact ⟨by omega, this.2⟩
theorem cf_P_set {i m m' : Nat} (I : cf_P K O S i m N) (z : K i ≠ 0) (hy : N (O i) = 0 ∨ S (N (O i) - 1) ≤ S i) (hm : m ≤ m') (hi : S i < m') : cf_P K O S (i + 1) m' (cf_u N (O i) (i + 1)) := by
  refine ⟨fun p hp hK => ?_, fun s hs h0 => ?_⟩
  · by_cases eo : O p = O i
    · have e1 : cf_u N (O i) (i + 1) (O p) = i + 1 := by rw [eo]; exact cf_us
      rw [e1, Nat.add_sub_cancel]
      by_cases e : p = i
      · subst e; exact ⟨hi, by omega, Nat.le_refl _⟩
      · obtain ⟨a1, a2, a3⟩ := I.1 p (by omega) hK
        rw [eo] at a2 a3
        rcases hy with hy | hy
        · exact absurd hy a2
        · exact ⟨by omega, by omega, by omega⟩
    · have e : p ≠ i := fun e => eo (by rw [e])
      obtain ⟨a1, a2, a3⟩ := I.1 p (by omega) hK
      rw [cf_un eo]
      exact ⟨by omega, a2, a3⟩
  · by_cases es : s = O i
    · subst es
      have e1 : cf_u N (O i) (i + 1) (O i) = i + 1 := cf_us
      rw [e1, Nat.add_sub_cancel]
      exact ⟨Nat.le_refl _, z, rfl⟩
    · rw [cf_un es] at h0
      rw [cf_un es]
      have := I.2 s hs h0
      exact ⟨by omega, this.2⟩
theorem cf_P_fin {ns m : Nat} {N0 : Nat → Nat} (hB : cf_B ns K O S N0) (I : cf_P K O S 32 m N) : (∀ s, s < 16 → N s = N0 s) ∧ cf_B m K O S N := by
  have h : ∀ s, s < 16 → N s = N0 s := by
    intro s hs
    by_cases h0 : N s = 0
    · by_cases g0 : N0 s = 0
      · rw [h0, g0]
      · obtain ⟨g1, g2⟩ := hB.2 s hs
        obtain ⟨g3, g4⟩ := g2 g0
        have := (I.1 (N0 s - 1) (by omega) g3).2.1
        rw [g4] at this
        exact absurd h0 this
    · obtain ⟨a1, a2, a3⟩ := I.2 s hs h0
      have hp : N s - 1 < 32 := by omega
      obtain ⟨b1, b2, b3, b4, b5⟩ := hB.1 (N s - 1) hp a2
      rw [a3] at b3 b4 b5
      obtain ⟨g1, g2⟩ := hB.2 s hs
      obtain ⟨g3, g4⟩ := g2 b3
      have := (I.1 (N0 s - 1) (by omega) g3).2.2
      rw [g4] at this
      have e := b5 (by omega)
      omega
  refine ⟨h, fun p hp hK => ?_, fun s hs => ?_⟩
  · obtain ⟨b1, b2, b3, b4, b5⟩ := hB.1 p hp hK
    rw [h _ b1]
    exact ⟨b1, (I.1 p hp hK).1, b3, b4, b5⟩
  · rw [h s hs]
    exact hB.2 s hs
end
section
variable {c f ns : Nat} {K W T : Nat → Int32} {O S N : Nat → Nat}
theorem cf_f97 {post : SX → Prop} (hc : c < 8) (h : post (nI c, nI f, lN ns, K, (fun p => nI (O p)), (fun p => lN (S p)), W, T, (fun s => nI (N s) - 1))) : ∀ d j a : Nat, j + d = 4 → a + cf_sm (cf_nz K) (4 * c + j) d = f → wX_findCurrent_97 post (nI c) (lN ns) K (fun p => nI (O p)) (fun p => lN (S p)) W T (fun s => nI (N s) - 1) (d + 1) (nI (4 * c + j)) (nI a) := by
  intro d
  induction d with
  | zero =>
    intro j a e hR
    have hR' : a = f := hR
    subst hR'
    exact pk_le (4 * c + 4) (4 * c + j) (fun _ => h) (fun z => absurd z (by omega)) (cf_4b4 c)
  | succ d ih =>
    intro j a e hR
    rw [cf_sm_s] at hR
    have hp : 4 * c + j < 32 := by omega
    refine pk_le (4 * c + 4) (4 * c + j) (fun z => absurd z (by omega)) (fun _ => ⟨vp_in_nI hp (by omega), ?_⟩) (cf_4b4 c)
    rw [nI_clamp (show 4 * c + j < 2 ^ 31 by omega)]
    by_cases z : K (4 * c + j) = 0
    · rw [cf_nz_0 z] at hR
      exact br_t z (nm_r (Int32.add_zero _) (nm_r (nI_1 _) (ih (j + 1) a (by omega) (by rw [← hR, Nat.zero_add]; rfl))))
    · rw [cf_nz_1 z] at hR
      exact br_f z (nm_r (nI_1 a) (nm_r (nI_1 _) (ih (j + 1) (a + 1) (by omega) (by rw [← hR, Nat.add_assoc]; rfl))))
theorem cf_f49 {post : SX → Prop} (h : ∀ c f : Nat, c < 8 → cf_i49 K 8 c → cf_sm (cf_nz K) (4 * c) 4 = f → post (nI c, nI f, lN ns, K, (fun p => nI (O p)), (fun p => lN (S p)), W, T, (fun s => nI (N s) - 1))) : ∀ d j c : Nat, j + d = 8 → c < 8 → cf_i49 K j c → wX_findCurrent_49 post 0 (lN ns) K (fun p => nI (O p)) (fun p => lN (S p)) W T (fun s => nI (N s) - 1) (d + 1) (nI j) (nI c) := by
  intro d
  induction d with
  | zero =>
    intro j c e hc I
    have e2 : j = 8 := by omega
    subst e2
    exact br_t (nI_le (a := 8) (b := 8) (by omega) (by omega)) (nm_r (cf_4b c) ⟨5, cf_f97 hc (h c _ hc I rfl) 4 0 0 rfl (Nat.zero_add _)⟩)
  | succ d ih =>
    intro j c e hc I
    have hn : ∀ c1, c1 < 8 → cf_i49 K (j + 1) c1 → ∀ y, y = nI j + 1 → wX_findCurrent_49 post 0 (lN ns) K (fun p => nI (O p)) (fun p => lN (S p)) W T (fun s => nI (N s) - 1) (d + 1) y (nI c1) := fun c1 h1 I1 => nm_r (nI_1 j) (ih (j + 1) c1 (by omega) h1 I1)
    have hk : (K (4 * j) ≠ 0 → K (4 * j + 3) ≠ 0) → cf_i49 K (j + 1) c := fun q => by
      rcases I with I | ⟨I1, I2⟩
      · exact Or.inl I
      · refine Or.inr ⟨I1, fun b hb => ?_⟩
        by_cases eb : b = j
        · subst eb; exact q
        · exact I2 b (by omega)
    refine br_f (nI_ge (b := 8) (by omega) (by decide)) ⟨pk_in (4 * j) 32 (by omega) (cf_4b j), ?_⟩
    rw [cf_4b3 j, cf_4b j, nI_clamp (show 4 * j < 2 ^ 31 by omega), nI_clamp (show 4 * j + 3 < 2 ^ 31 by omega)]
    by_cases z : K (4 * j) = 0
    · exact br_t z (hn c hc (hk (fun y => absurd z y)))
    · refine br_f z ⟨vp_in_nI (by omega) (by omega), ?_⟩
      exact br_c (fun y => hn j (by omega) (Or.inl ⟨z, y⟩)) (fun y => hn c hc (hk (fun _ => y)))
theorem cf_f12 {post : SX → Prop} (h : ∀ c f : Nat, c < 8 → cf_i49 K 8 c → cf_sm (cf_nz K) (4 * c) 4 = f → post (nI c, nI f, lN ns, K, (fun p => nI (O p)), (fun p => lN (S p)), W, T, (fun s => nI (N s) - 1))) : ∀ d j c : Nat, j + d = 8 → c < 8 → cf_i12 K j c → wX_findCurrent_12 post 0 (lN ns) K (fun p => nI (O p)) (fun p => lN (S p)) W T (fun s => nI (N s) - 1) (d + 1) (nI j) (nI c) := by
  intro d
  induction d with
  | zero =>
    intro j c e hc I
    have e2 : j = 8 := by omega
    subst e2
    exact br_t (nI_le (a := 8) (b := 8) (by omega) (by omega)) ⟨9, cf_f49 h 8 0 c rfl hc (Or.inr ⟨I, fun b hb => absurd hb (by omega)⟩)⟩
  | succ d ih =>
    intro j c e hc I
    refine br_f (nI_ge (b := 8) (by omega) (by decide)) ⟨pk_in (4 * j) 32 (by omega) (cf_4b j), ?_⟩
    rw [cf_4b j, nI_clamp (show 4 * j < 2 ^ 31 by omega)]
    refine br_c (fun z => nm_r (nI_1 j) (ih (j + 1) c (by omega) hc ?_)) (fun z => nm_r (nI_1 j) (ih (j + 1) j (by omega) (by omega) (Or.inl z)))
    rcases I with I | ⟨I1, I2⟩
    · exact Or.inl I
    · refine Or.inr ⟨I1, fun b hb => ?_⟩
      by_cases eb : b = j
      · subst eb; exact z
      · exact I2 b (by omega)
theorem cf_w_find {post : SX → Prop} {x y : Int32} (hC : cf_C0 c f K) (hF : cf_Fr c K) (h : ∀ c f : Nat, cf_C0 c f K → cf_Fr c K → post (nI c, nI f, lN ns, K, (fun p => nI (O p)), (fun p => lN (S p)), W, T, (fun s => nI (N s) - 1))) : wpX_findCurrent post (x, y, lN ns, K, (fun p => nI (O p)), (fun p => lN (S p)), W, T, (fun s => nI (N s) - 1)) :=
  ⟨9, cf_f12 (fun c1 f1 h1 I e => h c1 f1 (cf_found hC hF h1 I e).1 (cf_found hC hF h1 I e).2) 8 0 0 rfl (by decide) (Or.inr ⟨rfl, fun b hb => absurd hb (by omega)⟩)⟩
theorem cf_p87 {post : SX → Prop} {J : Int32 → Int64 → (Nat → Int32) → (Nat → Int32) → (Nat → Int64) → (Nat → Int32) → (Nat → Int32) → (Nat → Int32) → Prop} {x y : Int32} {i m : Nat} (hi : i < 32) (hS : S i < ns) (hm : m ≤ ns) (hns : ns < 2 ^ 31) (h : ∀ m', m ≤ m' → m' ≤ ns → S i < m' → J (nI (i + 1)) (lN m') K (fun p => nI (O p)) (fun p => lN (S p)) W T (fun s => nI (N s) - 1)) : wX_power_87 post J (nI i) x y (lN m) K (fun p => nI (O p)) (fun p => lN (S p)) W T (fun s => nI (N s) - 1) := by
  have hv : vp_in (nI i) 32 := vp_in_nI hi (by omega)
  refine ⟨hv, ?_⟩
  rw [nI_clamp (show i < 2 ^ 31 by omega)]
  by_cases z : S i < m
  · exact br_t ((lN_lt (by omega) (by omega)).mpr z) (nm_r (nI_1 i) (h m (Nat.le_refl _) hm z))
  · exact br_f (fun q => z ((lN_lt (by omega) (by omega)).mp q)) ⟨hv, nm_r (lN_1 (S i)) (nm_r (nI_1 i) (h (S i + 1) (by omega) (by omega) (by omega)))⟩
theorem cf_p80 {post : SX → Prop} {J : Int32 → Int64 → (Nat → Int32) → (Nat → Int32) → (Nat → Int64) → (Nat → Int32) → (Nat → Int32) → (Nat → Int32) → Prop} {x y : Int32} {i m s : Nat} (hi : i < 32) (hs : s < 16) (hS : S i < ns) (hm : m ≤ ns) (hns : ns < 2 ^ 31) (h : ∀ m', m ≤ m' → m' ≤ ns → S i < m' → J (nI (i + 1)) (lN m') K (fun p => nI (O p)) (fun p => lN (S p)) W T (fun j => nI (cf_u N s (i + 1) j) - 1)) : wX_power_80 post J (nI i) (nI s) x y (lN m) K (fun p => nI (O p)) (fun p => lN (S p)) W T (fun s => nI (N s) - 1) := by
  refine ⟨vp_in_nI hs (by omega), ?_⟩
  rw [nI_clamp (show s < 2 ^ 31 by omega)]
  exact nm_r (cf_uM N s i) (cf_p87 hi hS hm hns h)
theorem cf_p28 {post : SX → Prop} {x y : Int32} (hO : ∀ p, p < 32 → K p ≠ 0 → O p < 16 ∧ S p < ns) (hns : ns < 2 ^ 31) (hC : cf_C0 c f K) (hF : cf_Fr c K)
    (h : ∀ (c f m : Nat) (N : Nat → Nat), 1 ≤ m → m ≤ ns → cf_P K O S 32 m N → cf_C0 c f K → cf_Fr c K → post (nI c, nI f, lN m, K, (fun p => nI (O p)), (fun p => lN (S p)), W, T, (fun s => nI (N s) - 1))) :
    ∀ (d i m : Nat) (N : Nat → Nat), i + d = 32 → 1 ≤ m → m ≤ ns → cf_P K O S i m N → wX_power_28 post x y (d + 1) (nI i) (lN m) K (fun p => nI (O p)) (fun p => lN (S p)) W T (fun s => nI (N s) - 1) := by
  intro d
  induction d with
  | zero =>
    intro i m N e m1 m2 I
    have e2 : i = 32 := by omega
    subst e2
    exact br_t (nI_le (a := 32) (b := 32) (by omega) (by omega)) (cf_w_find hC hF (fun c1 f1 hC1 hF1 => h c1 f1 m N m1 m2 I hC1 hF1))
  | succ d ih =>
    intro i m N e m1 m2 I
    have hi : i < 32 := by omega
    have hv : vp_in (nI i) 32 := vp_in_nI hi (by omega)
    refine br_f (nI_ge (b := 32) (by omega) (by decide)) ⟨hv, ?_⟩
    rw [nI_clamp (show i < 2 ^ 31 by omega)]
    by_cases z : K i = 0
    · exact br_t z (nm_r (nI_1 i) (ih (i + 1) m N (by omega) m1 m2 (cf_P_skip I z)))
    · obtain ⟨o1, o2⟩ := hO i hi z
      have ho : vp_in (nI (O i)) 16 := vp_in_nI o1 (by omega)
      refine br_f z ⟨hv, nm_r (e' := nI (O i)) rfl ⟨ho, ?_⟩⟩
      rw [nI_clamp (show O i < 2 ^ 31 by omega)]
      dsimp only
      by_cases y : N (O i) = 0
      · refine br_t ((cf_m0 (by omega)).mpr y) (cf_p80 hi o1 o2 m2 hns (fun m' a1 a2 a3 => ?_))
        exact ih (i + 1) m' (cf_u N (O i) (i + 1)) (by omega) (by omega) a2 (cf_P_set I z (Or.inl y) a1 a3)
      · obtain ⟨b1, b2, b3⟩ := I.2 (O i) o1 y
        have b4 := (hO (N (O i) - 1) (by omega) b2).2
        have hw : vp_in (nI (N (O i)) - 1) 32 := by rw [cf_ms y]; exact vp_in_nI (by omega) (by omega)
        refine br_f (fun q => y ((cf_m0 (by omega)).mp q)) ⟨hv, ho, hw, ?_⟩
        rw [cf_ms y, nI_clamp (show N (O i) - 1 < 2 ^ 31 by omega)]
        by_cases w : S i ≤ S (N (O i) - 1)
        · refine br_t ((lN_le (by omega) (by omega)).mpr w) (cf_p87 hi o2 m2 hns (fun m' a1 a2 a3 => ?_))
          exact ih (i + 1) m' N (by omega) (by omega) a2 (cf_P_keep I y w a1 a3)
        · refine br_f (fun q => w ((lN_le (by omega) (by omega)).mp q)) (cf_p80 hi o1 o2 m2 hns (fun m' a1 a2 a3 => ?_))
          exact ih (i + 1) m' (cf_u N (O i) (i + 1)) (by omega) (by omega) a2 (cf_P_set I z (Or.inr (by omega)) a1 a3)
theorem cf_p7 {post : SX → Prop} {x y : Int32} (h : ∀ N : Nat → Nat, (∀ s, s < 16 → N s = 0) → ∃ n, wX_power_28 post x y n 0 (lN 1) K (fun p => nI (O p)) (fun p => lN (S p)) W T (fun s => nI (N s) - 1)) : ∀ (d j : Nat) (N : Nat → Nat), j + d = 16 → (∀ s, s < j → N s = 0) → wX_power_7 post x y (lN 1) (d + 1) (nI j) K (fun p => nI (O p)) (fun p => lN (S p)) W T (fun s => nI (N s) - 1) := by
  intro d
  induction d with
  | zero =>
    intro j N e I
    have e2 : j = 16 := by omega
    subst e2
    exact br_t (nI_le (a := 16) (b := 16) (by omega) (by omega)) (h N I)
  | succ d ih =>
    intro j N e I
    refine br_f (nI_ge (b := 16) (by omega) (by decide)) ⟨vp_in_nI (by omega) (by omega), ?_⟩
    rw [nI_clamp (show j < 2 ^ 31 by omega)]
    refine nm_r (cf_uM0 N j) (nm_r (nI_1 j) (ih (j + 1) (cf_u N j 0) (by omega) (fun s hs => ?_)))
    by_cases es : s = j
    · subst es; exact cf_us
    · rw [cf_un es]; exact I s (by omega)
theorem cf_w_power {post : SX → Prop} {x y : Int32} {z : Int64} {N0 : Nat → Nat} (hB : cf_B ns K O S N0) (h1 : 1 ≤ ns) (hns : ns < 2 ^ 31) (hC : cf_C0 c f K) (hF : cf_Fr c K)
    (h : ∀ (c f m : Nat) (N : Nat → Nat), 1 ≤ m → m ≤ ns → cf_B m K O S N → (∀ s, s < 16 → N s = N0 s) → cf_C0 c f K → cf_Fr c K → post (nI c, nI f, lN m, K, (fun p => nI (O p)), (fun p => lN (S p)), W, T, (fun s => nI (N s) - 1))) :
    wpX_power post (x, y, z, K, (fun p => nI (O p)), (fun p => lN (S p)), W, T, (fun s => nI (N s) - 1)) := by
  refine ⟨17, cf_p7 (fun N1 hN1 => ⟨33, ?_⟩) 16 0 N rfl (fun s hs => absurd hs (by omega))⟩
  refine cf_p28 (ns := ns) (c := c) (f := f) (fun p hp hK => ⟨(hB.1 p hp hK).1, (hB.1 p hp hK).2.1⟩) hns hC hF (fun c1 f1 m N2 a1 a2 a3 a4 a5 => ?_) 32 0 1 N1 rfl (Nat.le_refl _) h1 ⟨fun p hp => absurd hp (by omega), fun s hs h0 => absurd (hN1 s hs) h0⟩
  exact h c1 f1 m N2 a1 a2 (cf_P_fin hB a3).2 (cf_P_fin hB a3).1 a4 a5
end
end
section
/-! tidy -/
def cf_TQ (n0 : Nat) (d0 : Nat → Int32 × Int32 × Int32) (post : SX → Prop) : Prop := ∀ (c : Nat) (f ns : Nat) (K : Nat → Int32) (O S : Nat → Nat) (W T : Nat → Int32) (N : Nat → Nat), cf_B ns K O S N → cf_C0 c f K → cf_Fr c K → n0 ≤ ns → ns ≤ n0 + 16 → (∀ s, s < 16 → cf_d K W T N s = d0 s) → post (nI c, nI f, lN ns, K, (fun p => nI (O p)), (fun p => lN (S p)), W, T, (fun s => nI (N s) - 1))
theorem cf_3f : ∀ f, f < 5 → ∀ l, l < 5 → ¬ ((3 : Int32) - nI f < nI l) → f + l ≤ 3 := by decide +kernel
theorem cf_tidy_l {post : SX → Prop} {x : Int32} {n0 : Nat} {d0 : Nat → Int32 × Int32 × Int32} (h : cf_TQ n0 d0 post) :
    ∀ (d j c : Nat) (f ns : Nat) (K : Nat → Int32) (O S : Nat → Nat) (W T : Nat → Int32) (N : Nat → Nat), j + d = 4 → cf_B ns K O S N → cf_C0 c f K → cf_Fr c K → n0 ≤ ns → ns ≤ n0 + 4 * j → (∀ s, s < 16 → cf_d K W T N s = d0 s) → wX_tidy_2 post x (d + 1) (nI j) (nI c) (nI f) (lN ns) K (fun p => nI (O p)) (fun p => lN (S p)) W T (fun s => nI (N s) - 1) := by
  intro d
  induction d with
  | zero =>
    intro j c f ns K O S W T N e hB hC hF n1 n2 hd
    have e2 : j = 4 := by omega
    subst e2
    have hp := h c f ns K O S W T N hB hC hF n1 (by omega) hd
    exact br_c (fun _ => hp) (fun _ => br_t (nI_le (a := 4) (b := 4) (by omega) (by omega)) hp)
  | succ d ih =>
    intro j c f ns K O S W T N e hB hC hF n1 n2 hd
    have hp := h c f ns K O S W T N hB hC hF n1 (by omega) hd
    have hn := ih (j + 1) c f ns K O S W T N (by omega) hB hC hF n1 (by omega) hd
    refine br_c (fun _ => hp) (fun _ => br_f (nI_ge (b := 4) (by omega) (by decide)) (cf_w_least hC.1 (cf_hN hB) (fun x I => ?_)))
    rcases I with ⟨ex, I⟩ | ⟨v, ex, v1, v2, v3, v4⟩
    · exact br_t (by rw [ex]; decide) (nm_r (nI_1 j) hn)
    · subst ex
      refine br_f (nI_pos (by omega)) (cf_w_live v1 (cf_hN hB) ?_)
      refine br_c (fun _ => nm_r (nI_1 j) hn) (fun z => ?_)
      have hL := cf_L_le K O N v
      have hf := hC.2.1
      have h3 := cf_3f f (by omega) (cf_L K O N v) (by omega) z
      refine cf_w_gather (M := 3) v1 v2 hB hC h3 (by omega) (fun f1 ns1 K1 O1 S1 W1 T1 N1 hB1 hC1 hF1 m1 k1 k2 hd1 => ?_)
      exact nm_r (nI_1 j) (ih (j + 1) c f1 ns1 K1 O1 S1 W1 T1 N1 (by omega) hB1 hC1 hF1 (by omega) (by omega) (fun s hs => (hd1 s hs).trans (hd s hs)))
end
section
/-! the relation; one sector, one read, one write -/
def cf_Q (d : Int32 × Int32 × Int32) (a v t : Int32) : Prop := (a = 0 ∧ (d.1 = 0 ∨ d.1 = 2)) ∨ (a = 1 ∧ d.1 = 1 ∧ cf_code v d.2.1 ∧ cf_low v 16 ∧ d.2.2 = t ∧ cf_on (bt t) 22 ≤ 2)
def i_Rel (k : Nat) (u : SX) (v : SY) : Prop := ∃ (c f ns : Nat) (K : Nat → Int32) (O S : Nat → Nat) (W T : Nat → Int32) (N : Nat → Nat), u = (nI c, nI f, lN ns, K, (fun p => nI (O p)), (fun p => lN (S p)), W, T, (fun s => nI (N s) - 1)) ∧ cf_B ns K O S N ∧ cf_C0 c f K ∧ cf_Fr c K ∧ 1 ≤ ns ∧ ns ≤ 1 + 10 * k ∧ ∀ s, s < 16 → cf_Q (cf_d K W T N s) (v.1 s) (v.2.1 s) (v.2.2 s)
theorem i_up {k : Nat} {u : SX} {v : SY} (h : i_Rel k u v) : i_Rel (k + 3) u v := by
  obtain ⟨c1, f1, ns1, K1, O1, S1, W1, T1, N1, e, hB, hC, hF, n1, n2, hQ⟩ := h
  exact ⟨c1, f1, ns1, K1, O1, S1, W1, T1, N1, e, hB, hC, hF, n1, by omega, hQ⟩
theorem cf_sec (x : Int32) : (∃ s, s < 16 ∧ x = nI s ∧ (∀ post : Int32 → Prop, post 1 → wpX_isSector post x) ∧ (∀ post : Int32 → Prop, post 0 → wpY_bad post x)) ∨ ((∀ post : Int32 → Prop, post 0 → wpX_isSector post x) ∧ (∀ post : Int32 → Prop, post 1 → wpY_bad post x)) := by
  by_cases h0 : x < 0
  · exact Or.inr ⟨fun post h => br_t h0 h, fun post h => br_t h0 h⟩
  · obtain ⟨j, hj, rfl⟩ := nI_of h0
    by_cases h : j < 16
    · exact Or.inl ⟨j, h, rfl, fun post hp => br_f h0 (br_f (nI_nlt (a := 15) (b := j) (by omega) (by omega)) hp), fun post hp => br_f h0 (br_t (nI_le (a := j) (b := 15) (by omega) (by omega)) hp)⟩
    · exact Or.inr ⟨fun post hp => br_f h0 (br_t (nI_lt (a := 15) (b := j) (by omega) hj) hp), fun post hp => br_f h0 (br_f (nI_ge (a := 15) (b := j) (by omega) hj) hp)⟩
theorem cf_low_and (x : Int32) : cf_low (x &&& 65535) 16 := by
  intro i h1 h2
  rw [b_and, b_65535, decide_eq_false (by omega), Bool.and_false]
theorem cf_low_eq {x : Int32} (h : cf_low x 16) : x &&& 65535 = x := by
  apply b_ext
  intro i hi
  rw [b_and, b_65535]
  by_cases e : i < 16
  · rw [decide_eq_true e, Bool.and_true]
  · rw [decide_eq_false e, Bool.and_false, h i (by omega) hi]
theorem cf_low_pos {x : Int32} (h : cf_low x 16) : ¬ x < 0 := by
  rw [← cf_low_eq h, pk_and x 16 (by decide)]
  have := Nat.mod_lt x.toBitVec.toNat (show 2 ^ 16 > 0 by decide)
  exact nI_pos (by omega)
theorem cf_on00 : cf_on (bt 0) 22 = 0 := by decide +kernel
theorem cf_nb1 : vp_nar .boolean 1 = 1 := rfl
theorem cf_nb0 : vp_nar .boolean 0 = 0 := rfl
section
variable {c f ns k : Nat} {K W T : Nat → Int32} {O S N : Nat → Nat} {A V D : Nat → Int32}
theorem cf_rel_new {c1 f1 ns1 : Nat} {K1 W1 T1 : Nat → Int32} {O1 S1 N1 : Nat → Nat} {A1 V1 D1 : Nat → Int32} {s : Nat} {q : Int32 × Int32 × Int32} (hQ : ∀ s, s < 16 → cf_Q (cf_d K W T N s) (A s) (V s) (D s)) (hB1 : cf_B ns1 K1 O1 S1 N1) (hC1 : cf_C0 c1 f1 K1) (hF1 : cf_Fr c1 K1) (n1 : 1 ≤ ns1) (n2 : ns1 ≤ 1 + 10 * (k + 3)) (hs : cf_d K1 W1 T1 N1 s = q) (hr : ∀ r, r < 16 → r ≠ s → cf_d K1 W1 T1 N1 r = cf_d K W T N r) (hA : ∀ r, r ≠ s → A1 r = A r) (hV : ∀ r, r ≠ s → V1 r = V r) (hD : ∀ r, r ≠ s → D1 r = D r) (hq : cf_Q q (A1 s) (V1 s) (D1 s)) : i_Rel (k + 3) (nI c1, nI f1, lN ns1, K1, (fun p => nI (O1 p)), (fun p => lN (S1 p)), W1, T1, (fun s => nI (N1 s) - 1)) (A1, V1, D1) := by
  refine ⟨c1, f1, ns1, K1, O1, S1, W1, T1, N1, rfl, hB1, hC1, hF1, n1, n2, fun r h => ?_⟩
  show cf_Q (cf_d K1 W1 T1 N1 r) (A1 r) (V1 r) (D1 r)
  by_cases e : r = s
  · subst e; rw [hs]; exact hq
  · rw [hr r h e, hA r e, hV r e, hD r e]; exact hQ r h
theorem cf_w_write {post : Int32 → SX → Prop} {s : Nat} {x : Int32} (hs : s < 16) (hX : ∀ post : Int32 → Prop, post 1 → wpX_isSector post (nI s)) (hB : cf_B ns K O S N) (hC : cf_C0 c f K) (hF : cf_Fr c K) (h : ∀ w, cf_code (x &&& 65535) w → cf_PQ s 1 w 0 ns (cf_d K W T N) (post 0)) : wpX_write post (nI c, nI f, lN ns, K, (fun p => nI (O p)), (fun p => lN (S p)), W, T, (fun s => nI (N s) - 1)) (nI s) x := by
  unfold wpX_write
  dsimp only
  refine hX _ (br_f (by decide) (cf_w_enc (fun w hw => cf_w_prog hs (by decide) hB hC hF (fun c1 f1 ns1 K1 O1 S1 W1 T1 N1 a1 a2 a3 a4 a5 a6 a7 => ?_))))
  exact h w hw c1 f1 ns1 K1 O1 S1 W1 T1 N1 a1 a2 a3 a4 a5 a6 a7
theorem cf_w_isw {post : Int32 → Prop} {s : Nat} (hs : s < 16) (hB : cf_B ns K O S N) (hQ : cf_Q (cf_d K W T N s) (A s) (V s) (D s)) (h : post (A s)) : wpX_isWritten post (nI c, nI f, lN ns, K, (fun p => nI (O p)), (fun p => lN (S p)), W, T, (fun s => nI (N s) - 1)) (nI s) := by
  unfold wpX_isWritten
  dsimp only
  have hi : vp_in (nI s) 16 := vp_in_nI hs (by omega)
  have hN := (hB.2 s hs).1
  refine ⟨hi, ?_⟩
  rw [nI_clamp (show s < 2 ^ 31 by omega)]
  by_cases z : N s = 0
  · rw [cf_d_0 z] at hQ
    rcases hQ with ⟨a, _⟩ | ⟨_, b, _⟩
    · rw [a] at h
      exact br_t ((cf_m0 (by omega)).mpr z) h
    · exact absurd b (show ¬ (0 : Int32) = 1 by decide)
  · rw [cf_d_n z] at hQ
    refine br_f (fun y => z ((cf_m0 (by omega)).mp y)) ⟨hi, ?_⟩
    rw [cf_ms z]
    refine ⟨vp_in_nI (by omega) (by omega), ?_⟩
    rw [nI_clamp (show N s - 1 < 2 ^ 31 by omega)]
    rcases hQ with ⟨a, b⟩ | ⟨a, b, _⟩
    · rw [a] at h
      refine br_f (fun y => ?_) h
      have b' : K (N s - 1) = 0 ∨ K (N s - 1) = 2 := b
      rw [y] at b'
      exact absurd b' (by decide)
    · rw [a] at h
      exact br_t b h
end
/-- a read: one answer of both -/
theorem cf_read {k : Nat} {u : SX} {v : SY} (I : i_Rel k u v) (x : Int32) : ∃ r : Int32, (∀ post : Int32 → Prop, post r → wpX_read post u x) ∧ (∀ post : Int32 → Prop, post r → wpY_read post v x) ∧ (r < 0 ∨ (¬ r < 0 ∧ cf_low r 16 ∧ ∃ s, s < 16 ∧ x = nI s ∧ v.1 s = 1 ∧ v.2.1 s = r)) := by
  obtain ⟨c, f, ns, K, O, S, W, T, N, rfl, hB, hC, hF, n1, n2, hQ⟩ := I
  obtain ⟨A, V, D⟩ := v
  rcases cf_sec x with ⟨s, hs, rfl, hX, hY⟩ | ⟨hX, hY⟩
  · have hi : vp_in (nI s) 16 := vp_in_nI hs (by omega)
    have hN := (hB.2 s hs).1
    have hcl : (nI s).toNatClampNeg = s := nI_clamp (by omega)
    have hq : cf_Q (cf_d K W T N s) (A s) (V s) (D s) := hQ s hs
    rcases hq with ⟨a, b⟩ | ⟨a, b, hcode, hlow, ht, hon⟩
    · refine ⟨-2, fun post h => ?_, fun post h => ?_, Or.inl (by decide)⟩
      · unfold wpX_read
        dsimp only
        refine hX _ (br_f (by decide) ⟨hi, ?_⟩)
        rw [hcl]
        refine nm_e ?_
        by_cases z : N s = 0
        · exact br_t ((cf_m0 (by omega)).mpr z) h
        · rw [cf_d_n z] at b
          refine br_f (fun y => z ((cf_m0 (by omega)).mp y)) ?_
          rw [cf_ms z]
          have hv : vp_in (nI (N s - 1)) 32 := vp_in_nI (by omega) (by omega)
          refine ⟨hv, ?_⟩
          rw [nI_clamp (show N s - 1 < 2 ^ 31 by omega)]
          have b' : K (N s - 1) = 0 ∨ K (N s - 1) = 2 := b
          rcases b' with b' | b'
          · exact absurd b' ((hB.2 s hs).2 z).1
          · exact br_t b' h
      · unfold wpY_read
        dsimp only
        refine hY _ (br_t rfl ⟨hi, ?_⟩)
        rw [hcl]
        exact br_t a h
    · have z : N s ≠ 0 := fun z => by
        rw [cf_d_0 z] at b
        exact absurd b (show ¬ (0 : Int32) = 1 by decide)
      rw [cf_d_n z] at b hcode ht
      have b' : K (N s - 1) = 1 := b
      have hcode' : cf_code (V s) (W (N s - 1)) := hcode
      have ht' : T (N s - 1) = D s := ht
      refine ⟨if cf_on (bt (D s)) 22 = 2 then -3 else V s, fun post h => ?_, fun post h => ?_, ?_⟩
      · unfold wpX_read
        dsimp only
        refine hX _ (br_f (by decide) ⟨hi, ?_⟩)
        rw [hcl]
        refine nm_e (br_f (fun y => z ((cf_m0 (by omega)).mp y)) ?_)
        rw [cf_ms z]
        have hv : vp_in (nI (N s - 1)) 32 := vp_in_nI (by omega) (by omega)
        refine ⟨hv, ?_⟩
        rw [nI_clamp (show N s - 1 < 2 ^ 31 by omega), ht']
        refine br_f (by rw [b']; decide) ⟨hv, hv, ?_⟩
        exact cf_w_dec hlow hcode' hon h
      · unfold wpY_read
        dsimp only
        refine hY _ (br_t rfl ⟨hi, ?_⟩)
        rw [hcl]
        have a' : A s = 1 := a
        refine br_f (by rw [a']; decide) (cf_w_turns hs rfl ?_)
        refine pk_eq (cf_on (bt (D s)) 22) 2 (fun e => ?_) (fun e => ⟨hi, ?_⟩)
        · rw [if_pos e] at h; exact h
        · rw [if_neg e] at h; exact h
      · by_cases e : cf_on (bt (D s)) 22 = 2
        · rw [if_pos e]; exact Or.inl (by decide)
        · rw [if_neg e]
          exact Or.inr ⟨cf_low_pos hlow, hlow, s, hs, rfl, a, rfl⟩
  · refine ⟨-1, fun post h => ?_, fun post h => ?_, Or.inl (by decide)⟩
    · unfold wpX_read
      dsimp only
      exact hX _ (br_t rfl h)
    · unfold wpY_read
      dsimp only
      exact hY _ (br_f (by decide) h)
end
section
/-! what is owed -/
theorem i_vc0 : wpX_init (fun u => wpY_init (fun v => i_Rel 0 u v)) := by
  unfold wpX_init
  have hB : cf_B 1 (fun _ => 0) (fun _ => 0) (fun _ => 0) (fun _ => 0) := ⟨fun p _ h => absurd rfl h, fun s _ => ⟨Nat.zero_le _, fun h => absurd rfl h⟩⟩
  have hC : cf_C0 0 0 (fun _ => 0) := ⟨by decide, by decide, fun j _ => ⟨fun h => absurd rfl h, fun h => absurd h (by omega)⟩, fun b _ _ j _ => Iff.rfl⟩
  have hF : cf_Fr 0 (fun _ => 0) := ⟨1, by decide, by decide, rfl⟩
  refine cf_w_power (ns := 1) (c := 0) (f := 0) (K := fun _ => 0) (O := fun _ => 0) (S := fun _ => 0) (W := fun _ => 0) (T := fun _ => 0) (N := fun _ => 1) (N0 := fun _ => 0) hB (Nat.le_refl 1) (by decide) hC hF (fun c f m N m1 m2 hB1 hN hC1 hF1 => ?_)
  refine ⟨c, f, m, (fun _ => 0), (fun _ => 0), (fun _ => 0), (fun _ => 0), (fun _ => 0), N, rfl, hB1, hC1, hF1, m1, by omega, fun s hs => ?_⟩
  rw [cf_d_0 (hN s hs)]
  exact Or.inl ⟨rfl, Or.inl rfl⟩
theorem i_vc_write {k : Nat} {u : SX} {v : SY} (I : i_Rel k u v) (hk : k + 3 ≤ 1536) (v1 : Int32) (v2 : Int32) : wpX_write (fun r u' => wpY_write (fun r' v' => r' = r ∧ i_Rel (k + 3) u' v') v v1 v2) u v1 v2 := by
  have I0 := i_up I
  obtain ⟨c, f, ns, K, O, S, W, T, N, rfl, hB, hC, hF, n1, n2, hQ⟩ := I
  obtain ⟨A, V, D⟩ := v
  rcases cf_sec v1 with ⟨s, hs, rfl, hX, hY⟩ | ⟨hX, hY⟩
  · have hi : vp_in (nI s) 16 := vp_in_nI hs (by omega)
    refine cf_w_write hs hX hB hC hF (fun w hw c1 f1 ns1 K1 O1 S1 W1 T1 N1 hB1 hC1 hF1 k1 k2 hd hr => ?_)
    unfold wpY_write
    dsimp only
    refine hY _ (br_t rfl ⟨hi, ?_⟩)
    rw [nI_clamp (show s < 2 ^ 31 by omega)]
    refine nm_e ⟨hi, nm_e ⟨hi, nm_e ⟨rfl, ?_⟩⟩⟩
    refine cf_rel_new (A := A) (V := V) (D := D) hQ hB1 hC1 hF1 (by omega) (by omega) hd hr (fun r h => pk_un h) (fun r h => pk_un h) (fun r h => pk_un h) ?_
    rw [pk_us, pk_us, pk_us]
    exact Or.inr ⟨cf_nb1, rfl, hw, cf_low_and v2, rfl, by rw [cf_on00]; omega⟩
  · unfold wpX_write
    dsimp only
    refine hX _ (br_t rfl ?_)
    unfold wpY_write
    dsimp only
    exact hY _ (br_f (by decide) ⟨rfl, I0⟩)
theorem i_vc_read {k : Nat} {u : SX} {v : SY} (I : i_Rel k u v) (hk : k + 3 ≤ 1536) (v1 : Int32) : wpX_read (fun r => wpY_read (fun r' => r' = r ∧ i_Rel (k + 3) u v) v v1) u v1 := by
  obtain ⟨r, hX, hY, _⟩ := cf_read I v1
  exact hX _ (hY _ ⟨rfl, i_up I⟩)
theorem i_vc_trim {k : Nat} {u : SX} {v : SY} (I : i_Rel k u v) (hk : k + 3 ≤ 1536) (v1 : Int32) : wpX_trim (fun r u' => wpY_trim (fun r' v' => r' = r ∧ i_Rel (k + 3) u' v') v v1) u v1 := by
  have I0 := i_up I
  obtain ⟨c, f, ns, K, O, S, W, T, N, rfl, hB, hC, hF, n1, n2, hQ⟩ := I
  obtain ⟨A, V, D⟩ := v
  unfold wpX_trim
  dsimp only
  rcases cf_sec v1 with ⟨s, hs, rfl, hX, hY⟩ | ⟨hX, hY⟩
  · have hi : vp_in (nI s) 16 := vp_in_nI hs (by omega)
    have hcl : (nI s).toNatClampNeg = s := nI_clamp (by omega)
    have hq : cf_Q (cf_d K W T N s) (A s) (V s) (D s) := hQ s hs
    refine hX _ (br_f (by decide) (cf_w_isw hs hB hq ?_))
    by_cases z : A s = 0
    · refine br_t z ?_
      unfold wpY_trim
      dsimp only
      refine hY _ (br_t rfl ⟨hi, ?_⟩)
      rw [hcl]
      exact br_t z ⟨rfl, I0⟩
    · refine br_f z (cf_w_prog hs (by decide) hB hC hF (fun c1 f1 ns1 K1 O1 S1 W1 T1 N1 hB1 hC1 hF1 k1 k2 hd hr => ?_))
      dsimp only
      unfold wpY_trim
      dsimp only
      refine hY _ (br_t rfl ⟨hi, ?_⟩)
      rw [hcl]
      refine br_f z ⟨hi, nm_e ⟨rfl, ?_⟩⟩
      refine cf_rel_new (A := A) (V := V) (D := D) hQ hB1 hC1 hF1 (by omega) (by omega) hd hr (fun r h => pk_un h) (fun r h => rfl) (fun r h => rfl) ?_
      rw [pk_us]
      exact Or.inl ⟨cf_nb0, Or.inr rfl⟩
  · refine hX _ (br_t rfl ?_)
    unfold wpY_trim
    dsimp only
    exact hY _ (br_f (by decide) ⟨rfl, I0⟩)
theorem cf_flip {t : Int32} {p : Nat} (hp : p < 22) : cf_on (bt (t ^^^ ((1 : Int32) <<< (nI p &&& 31)))) 22 + cf_bn (bt t p) = cf_on (bt t) 22 + cf_bn (!bt t p) := by
  have h := cf_on_flip (bt t) p 22
  rw [if_pos hp, if_pos hp] at h
  rw [← h]
  have e : cf_on (bt (t ^^^ ((1 : Int32) <<< (nI p &&& 31)))) 22 = cf_on (fun i => bt t i ^^ decide (i = p)) 22 := by
    apply cf_on_congr
    intro i hi
    rw [b_xor, cf_one p (by omega) (by omega)]
  rw [e]
theorem i_vc_turn {k : Nat} {u : SX} {v : SY} (I : i_Rel k u v) (hk : k + 3 ≤ 1536) (v1 : Int32) (v2 : Int32) : wpX_turn (fun r u' => wpY_turn (fun r' v' => r' = r ∧ i_Rel (k + 3) u' v') v v1 v2) u v1 v2 := by
  have I0 := i_up I
  obtain ⟨c, f, ns, K, O, S, W, T, N, rfl, hB, hC, hF, n1, n2, hQ⟩ := I
  obtain ⟨A, V, D⟩ := v
  unfold wpX_turn
  dsimp only
  rcases cf_sec v1 with ⟨s, hs, rfl, hX, hY⟩ | ⟨hX, hY⟩
  · have hi : vp_in (nI s) 16 := vp_in_nI hs (by omega)
    have hcl : (nI s).toNatClampNeg = s := nI_clamp (by omega)
    have hq : cf_Q (cf_d K W T N s) (A s) (V s) (D s) := hQ s hs
    refine hX _ (br_f (by decide) ?_)
    by_cases h0 : v2 < 0
    · refine br_t h0 ?_
      unfold wpY_turn
      dsimp only
      exact hY _ (br_t rfl (br_t h0 ⟨rfl, I0⟩))
    · refine br_f h0 ?_
      by_cases h21 : v2 ≤ 21
      · obtain ⟨p, hp, rfl⟩ := nI_of2 (M := 21) (n := 21) (by decide) h0 h21
        refine br_t h21 (cf_w_isw hs hB hq ?_)
        by_cases z : A s = 0
        · refine br_t z ?_
          unfold wpY_turn
          dsimp only
          refine hY _ (br_t rfl (br_f h0 (br_t h21 ⟨hi, ?_⟩)))
          rw [hcl]
          exact br_t z ⟨rfl, I0⟩
        · refine br_f z ⟨hi, ?_⟩
          rw [hcl]
          rcases hq with ⟨a, _⟩ | ⟨a, b, hcode, hlow, ht, hon⟩
          · exact absurd a z
          · have zN : N s ≠ 0 := fun z => by
              rw [cf_d_0 z] at b
              exact absurd b (show ¬ (0 : Int32) = 1 by decide)
            have hN := (hB.2 s hs).1
            rw [cf_d_n zN] at b hcode ht
            have ht' : T (N s - 1) = D s := ht
            have hv : vp_in (nI (N s - 1)) 32 := vp_in_nI (by omega) (by omega)
            refine nm_r (e' := nI (N s - 1)) (cf_ms zN) ⟨hv, ?_⟩
            rw [nI_clamp (show N s - 1 < 2 ^ 31 by omega), ht']
            have hfl := cf_flip (t := D s) (p := p) (by omega)
            refine nm_e (cf_w_ones ?_)
            have hb1 := cf_bn_le (bt (D s) p)
            have hb2 := cf_bn_le (!bt (D s) p)
            refine pk_le (cf_on (bt (D s ^^^ ((1 : Int32) <<< (nI p &&& 31)))) 22) 2 (fun le => ⟨hv, nm_e ?_⟩) (fun gt => ?_)
            · unfold wpY_turn
              dsimp only
              refine hY _ (br_t rfl (br_f h0 (br_t h21 ⟨hi, ?_⟩)))
              rw [hcl]
              have h56 : wY_turn_56 (fun r' v' => r' = nI (cf_on (bt (D s ^^^ ((1 : Int32) <<< (nI p &&& 31)))) 22) ∧ i_Rel (k + 3) (nI c, nI f, lN ns, K, (fun p => nI (O p)), (fun p => lN (S p)), W, upd T (N s - 1) (D s ^^^ ((1 : Int32) <<< (nI p &&& 31))), (fun s => nI (N s) - 1)) v') (nI s) (nI p) A V D := by
                unfold wY_turn_56
                refine ⟨hi, hi, ?_⟩
                rw [hcl]
                refine nm_e (cf_w_turns hs pk_us ⟨rfl, ?_⟩)
                refine cf_rel_new (A := A) (V := V) (D := D) (s := s) (q := (K (N s - 1), W (N s - 1), D s ^^^ ((1 : Int32) <<< (nI p &&& 31)))) hQ hB hC hF n1 (by omega) (by rw [cf_d_n zN, pk_us]) (fun r hr hrs => ?_) (fun r h => rfl) (fun r h => rfl) (fun r h => pk_un h) ?_
                · by_cases zr : N r = 0
                  · rw [cf_d_0 zr, cf_d_0 zr]
                  · have hne : N r - 1 ≠ N s - 1 := fun y => hrs (by rw [← ((hB.2 r hr).2 zr).2, y, ((hB.2 s hs).2 zN).2])
                    rw [cf_d_n zr, cf_d_n zr, pk_un hne]
                · rw [pk_us]
                  exact Or.inr ⟨a, b, hcode, hlow, rfl, le⟩
              refine br_f z (cf_w_turns hs rfl ?_)
              refine pk_eq (cf_on (bt (D s)) 22) 2 (fun e2 => ⟨hi, ?_⟩) (fun e2 => h56)
              rw [cf_sbit p (by omega)]
              refine br_f (fun y => ?_) h56
              rw [cf_bn0] at y
              rw [y] at hfl
              have e1 : cf_bn (!false) = 1 := rfl
              have e0 : cf_bn false = 0 := rfl
              omega
            · unfold wpY_turn
              dsimp only
              refine hY _ (br_t rfl (br_f h0 (br_t h21 ⟨hi, ?_⟩)))
              rw [hcl]
              refine br_f z (cf_w_turns hs rfl ?_)
              refine pk_eq (cf_on (bt (D s)) 22) 2 (fun e2 => ⟨hi, ?_⟩) (fun e2 => absurd hon (by omega))
              rw [cf_sbit p (by omega)]
              refine br_t ?_ ⟨rfl, I0⟩
              rw [cf_bn0]
              cases hb : bt (D s) p
              · rfl
              · rw [hb] at hfl
                have e1 : cf_bn (!true) = 0 := rfl
                omega
      · refine br_f h21 ?_
        unfold wpY_turn
        dsimp only
        exact hY _ (br_t rfl (br_f h0 (br_f h21 ⟨rfl, I0⟩)))
  · refine hX _ (br_t rfl ?_)
    unfold wpY_turn
    dsimp only
    exact hY _ (br_f (by decide) ⟨rfl, I0⟩)
theorem i_vc_repair {k : Nat} {u : SX} {v : SY} (I : i_Rel k u v) (hk : k + 3 ≤ 1536) (v1 : Int32) : wpX_repair (fun r u' => wpY_repair (fun r' v' => r' = r ∧ i_Rel (k + 3) u' v') v v1) u v1 := by
  have I0 := i_up I
  obtain ⟨r, hX, hY, h⟩ := cf_read I v1
  obtain ⟨c, f, ns, K, O, S, W, T, N, rfl, hB, hC, hF, n1, n2, hQ⟩ := I
  obtain ⟨A, V, D⟩ := v
  unfold wpX_repair
  dsimp only
  refine hX _ ?_
  rcases h with h | ⟨h, hlow, s, hs, rfl, hA, hV⟩
  · refine br_t h ?_
    unfold wpY_repair
    dsimp only
    exact hY _ (br_t h ⟨rfl, I0⟩)
  · have hi : vp_in (nI s) 16 := vp_in_nI hs (by omega)
    rcases cf_sec (nI s) with ⟨s', hs', es, hX', hY'⟩ | ⟨hX', hY'⟩
    · have ess : s = s' := (nI_eq (by omega) (by omega)).mp es
      subst ess
      refine br_f h (cf_w_write hs hX' hB hC hF (fun w hw c1 f1 ns1 K1 O1 S1 W1 T1 N1 hB1 hC1 hF1 k1 k2 hd hr => ?_))
      dsimp only
      unfold wpY_repair
      dsimp only
      refine hY _ (br_f h ⟨hi, ?_⟩)
      rw [nI_clamp (show s < 2 ^ 31 by omega)]
      refine nm_e ⟨rfl, ?_⟩
      refine cf_rel_new (A := A) (V := V) (D := D) hQ hB1 hC1 hF1 (by omega) (by omega) hd hr (fun r h => rfl) (fun r h => rfl) (fun r h => pk_un h) ?_
      rw [pk_us]
      rw [cf_low_eq hlow] at hw
      have hV' : V s = r := hV
      rw [hV']
      exact Or.inr ⟨hA, rfl, hw, hlow, rfl, by rw [cf_on00]; omega⟩
    · exact absurd (hX' (fun r => r = 0) rfl) (fun y => by
        have := (y.2 (nI_pos (by omega))).2 (nI_nlt (a := 15) (b := s) (by omega) (by omega))
        exact absurd this (by decide))
theorem i_vc_power {k : Nat} {u : SX} {v : SY} (I : i_Rel k u v) (hk : k + 3 ≤ 1536) : wpX_power (fun u' => wpY_power (fun v' => i_Rel (k + 3) u' v') v) u := by
  obtain ⟨c, f, ns, K, O, S, W, T, N, rfl, hB, hC, hF, n1, n2, hQ⟩ := I
  obtain ⟨A, V, D⟩ := v
  refine cf_w_power hB n1 (by omega) hC hF (fun c1 f1 m N1 m1 m2 hB1 hN hC1 hF1 => ?_)
  refine ⟨c1, f1, m, K, O, S, W, T, N1, rfl, hB1, hC1, hF1, m1, by omega, fun s hs => ?_⟩
  have e : cf_d K W T N1 s = cf_d K W T N s := by unfold cf_d; rw [hN s hs]
  rw [e]
  exact hQ s hs
theorem i_vc_tidy {k : Nat} {u : SX} {v : SY} (I : i_Rel k u v) (hk : k + 3 ≤ 1536) (v1 : Int32) : wpX_tidy (fun u' => wpY_tidy (fun v' => i_Rel (k + 3) u' v') v v1) u v1 := by
  obtain ⟨c, f, ns, K, O, S, W, T, N, rfl, hB, hC, hF, n1, n2, hQ⟩ := I
  obtain ⟨A, V, D⟩ := v
  refine ⟨5, cf_tidy_l (n0 := ns) (d0 := cf_d K W T N) (fun c1 f1 ns1 K1 O1 S1 W1 T1 N1 hB1 hC1 hF1 k1 k2 hd => ?_) 4 0 c f ns K O S W T N rfl hB hC hF (Nat.le_refl _) (by omega) (fun _ _ => rfl)⟩
  refine ⟨c1, f1, ns1, K1, O1, S1, W1, T1, N1, rfl, hB1, hC1, hF1, by omega, by omega, fun s hs => ?_⟩
  rw [hd s hs]
  exact hQ s hs
theorem cf_written_l {k c f ns : Nat} {K W T : Nat → Int32} {O S N : Nat → Nat} {A V D : Nat → Int32} (hB : cf_B ns K O S N) (hQ : ∀ s, s < 16 → cf_Q (cf_d K W T N s) (A s) (V s) (D s)) : ∀ (d j : Nat) (x : Int32), j + d = 16 → ∃ r : Int32, (∀ post : Int32 → Prop, post r → wX_written_4 post (nI c) (nI f) (lN ns) K (fun p => nI (O p)) (fun p => lN (S p)) W T (fun s => nI (N s) - 1) (d + 1) x (nI j)) ∧ (∀ post : Int32 → Prop, post r → wY_written_4 post A V D (d + 1) x (nI j)) := by
  intro d
  induction d with
  | zero =>
    intro j x e
    have h : (16 : Int32) ≤ nI j := nI_le (a := 16) (by omega) (by omega)
    exact ⟨x, fun _ hp => br_t h hp, fun _ hp => br_t h hp⟩
  | succ d ih =>
    intro j x e
    have h : ¬ (16 : Int32) ≤ nI j := nI_ge (b := 16) (by omega) (by decide)
    have hj : j < 16 := by omega
    have hi : vp_in (nI j) 16 := vp_in_nI hj (by omega)
    have hcl : (nI j).toNatClampNeg = j := nI_clamp (by omega)
    by_cases z : A j = 0
    · obtain ⟨r, hX, hY⟩ := ih (j + 1) x (by omega)
      refine ⟨r, fun post hp => br_f h (cf_w_isw hj hB (hQ j hj) (br_t z (nm_r (Int32.add_zero _) (nm_r (nI_1 j) (hX post hp))))), fun post hp => br_f h ⟨hi, br_t (by rw [hcl]; exact z) (nm_r (nI_1 j) (hY post hp))⟩⟩
    · obtain ⟨r, hX, hY⟩ := ih (j + 1) (x + 1) (by omega)
      refine ⟨r, fun post hp => br_f h (cf_w_isw hj hB (hQ j hj) (br_f z (nm_e (nm_r (nI_1 j) (hX post hp))))), fun post hp => br_f h ⟨hi, br_f (by rw [hcl]; exact z) (nm_e (nm_r (nI_1 j) (hY post hp)))⟩⟩
theorem i_vc_written {k : Nat} {u : SX} {v : SY} (I : i_Rel k u v) (hk : k + 3 ≤ 1536) : wpX_written (fun r => wpY_written (fun r' => r' = r ∧ i_Rel (k + 3) u v) v) u := by
  have I0 := i_up I
  obtain ⟨c, f, ns, K, O, S, W, T, N, rfl, hB, hC, hF, n1, n2, hQ⟩ := I
  obtain ⟨A, V, D⟩ := v
  obtain ⟨r, hX, hY⟩ := cf_written_l (k := k) (c := c) (f := f) (A := A) (V := V) (D := D) hB hQ 16 0 0 rfl
  exact ⟨17, hX _ ⟨17, hY _ ⟨rfl, I0⟩⟩⟩
theorem cf_damaged_l {k : Nat} {u1 u2 : Int32} {u3 : Int64} {u4 u5 : Nat → Int32} {u6 : Nat → Int64} {u7 u8 u9 A V D : Nat → Int32} (I : i_Rel k (u1, u2, u3, u4, u5, u6, u7, u8, u9) (A, V, D)) : ∀ (d j : Nat) (x : Int32), j + d = 16 → ∃ r : Int32, (∀ post : Int32 → Prop, post r → wX_damaged_4 post u1 u2 u3 u4 u5 u6 u7 u8 u9 (d + 1) x (nI j)) ∧ (∀ post : Int32 → Prop, post r → wY_damaged_4 post A V D (d + 1) x (nI j)) := by
  intro d
  induction d with
  | zero =>
    intro j x e
    have h : (16 : Int32) ≤ nI j := nI_le (a := 16) (by omega) (by omega)
    exact ⟨x, fun _ hp => br_t h hp, fun _ hp => br_t h hp⟩
  | succ d ih =>
    intro j x e
    have h : ¬ (16 : Int32) ≤ nI j := nI_ge (b := 16) (by omega) (by decide)
    obtain ⟨q, qX, qY, _⟩ := cf_read I (nI j)
    by_cases z : q = -3
    · obtain ⟨r, hX, hY⟩ := ih (j + 1) (x + 1) (by omega)
      exact ⟨r, fun post hp => br_f h (qX _ (br_t z (nm_e (nm_r (nI_1 j) (hX post hp))))), fun post hp => br_f h (qY _ (br_t z (nm_e (nm_r (nI_1 j) (hY post hp)))))⟩
    · obtain ⟨r, hX, hY⟩ := ih (j + 1) x (by omega)
      exact ⟨r, fun post hp => br_f h (qX _ (br_f z (nm_r (Int32.add_zero _) (nm_r (nI_1 j) (hX post hp))))), fun post hp => br_f h (qY _ (br_f z (nm_r (nI_1 j) (hY post hp))))⟩
theorem i_vc_damaged {k : Nat} {u : SX} {v : SY} (I : i_Rel k u v) (hk : k + 3 ≤ 1536) : wpX_damaged (fun r => wpY_damaged (fun r' => r' = r ∧ i_Rel (k + 3) u v) v) u := by
  have I0 := i_up I
  obtain ⟨u1, u2, u3, u4, u5, u6, u7, u8, u9⟩ := u
  obtain ⟨A, V, D⟩ := v
  obtain ⟨r, hX, hY⟩ := cf_damaged_l I 16 0 0 rfl
  exact ⟨17, hX _ ⟨17, hY _ ⟨rfl, I0⟩⟩⟩
theorem cf_sum_l {k : Nat} {u1 u2 : Int32} {u3 : Int64} {u4 u5 : Nat → Int32} {u6 : Nat → Int64} {u7 u8 u9 A V D : Nat → Int32} (I : i_Rel k (u1, u2, u3, u4, u5, u6, u7, u8, u9) (A, V, D)) : ∀ (d j : Nat) (x : Int32), j + d = 16 → ∃ r : Int32, (∀ post : Int32 → Prop, post r → wX_sum_4 post u1 u2 u3 u4 u5 u6 u7 u8 u9 (d + 1) x (nI j)) ∧ (∀ post : Int32 → Prop, post r → wY_sum_4 post A V D (d + 1) x (nI j)) := by
  intro d
  induction d with
  | zero =>
    intro j x e
    have h : (16 : Int32) ≤ nI j := nI_le (a := 16) (by omega) (by omega)
    exact ⟨x, fun _ hp => br_t h hp, fun _ hp => br_t h hp⟩
  | succ d ih =>
    intro j x e
    have h : ¬ (16 : Int32) ≤ nI j := nI_ge (b := 16) (by omega) (by decide)
    obtain ⟨q, qX, qY, _⟩ := cf_read I (nI j)
    by_cases z : q < 0
    · obtain ⟨r, hX, hY⟩ := ih (j + 1) x (by omega)
      exact ⟨r, fun post hp => br_f h (qX _ (br_t (Int32.le_of_lt z) (nm_r (Int32.add_zero _) (nm_r (nI_1 j) (hX post hp))))), fun post hp => br_f h (qY _ (br_t z (nm_r (nI_1 j) (hY post hp))))⟩
    · by_cases z0 : q ≤ 0
      · have e0 : q = 0 := Int32.le_antisymm z0 (Int32.not_lt.mp z)
        obtain ⟨r, hX, hY⟩ := ih (j + 1) x (by omega)
        exact ⟨r, fun post hp => br_f h (qX _ (br_t z0 (nm_r (Int32.add_zero _) (nm_r (nI_1 j) (hX post hp))))), fun post hp => br_f h (qY _ (br_f z (nm_r (by rw [e0]; exact Int32.add_zero _) (nm_r (nI_1 j) (hY post hp)))))⟩
      · obtain ⟨r, hX, hY⟩ := ih (j + 1) (x + q) (by omega)
        exact ⟨r, fun post hp => br_f h (qX _ (br_f z0 (nm_e (nm_r (nI_1 j) (hX post hp))))), fun post hp => br_f h (qY _ (br_f z (nm_e (nm_r (nI_1 j) (hY post hp)))))⟩
theorem i_vc_sum {k : Nat} {u : SX} {v : SY} (I : i_Rel k u v) (hk : k + 3 ≤ 1536) : wpX_sum (fun r => wpY_sum (fun r' => r' = r ∧ i_Rel (k + 3) u v) v) u := by
  have I0 := i_up I
  obtain ⟨u1, u2, u3, u4, u5, u6, u7, u8, u9⟩ := u
  obtain ⟨A, V, D⟩ := v
  obtain ⟨r, hX, hY⟩ := cf_sum_l I 16 0 0 rfl
  exact ⟨17, hX _ ⟨17, hY _ ⟨rfl, I0⟩⟩⟩
end
