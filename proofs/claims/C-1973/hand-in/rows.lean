section
theorem pk_us {f : Nat → Int32} {k : Nat} {x : Int32} : upd f k x k = x := if_pos rfl
theorem pk_un {f : Nat → Int32} {k j : Nat} {x : Int32} (h : j ≠ k) : upd f k x j = f j := if_neg h
theorem pk_uLs {f : Nat → Int64} {k : Nat} {x : Int64} : vp_updL f k x k = x := if_pos rfl
theorem pk_uLn {f : Nat → Int64} {k j : Nat} {x : Int64} (h : j ≠ k) : vp_updL f k x j = f j := if_neg h
theorem pk_sub {a b : Nat} (h : b ≤ a) : nI a - nI b = nI (a - b) := by
  obtain ⟨c, rfl⟩ : ∃ c, a = c + b := ⟨a - b, by omega⟩
  rw [← nI_add, Int32.add_sub_cancel, Nat.add_sub_cancel]
theorem pk_m1 (n : Nat) : nI (n + 1) + (-1) = nI n := by
  rw [← nI_1, Int32.add_assoc, show (1 : Int32) + (-1) = 0 from rfl, Int32.add_zero]
theorem pk_mul (a b : Nat) : nI a * nI b = nI (a * b) := (Int32.ofNat_mul a b).symm
theorem pk_div {a d : Nat} (ha : a < 2 ^ 31) (h0 : 0 < d) (hd : d < 2 ^ 31) : nI a / nI d = nI (a / d) := by
  apply Int32.toInt_inj.mp
  rw [lg_idiv_nonneg (by rw [nI_toInt ha]; omega) (by rw [nI_toInt hd]; omega), nI_toInt ha, nI_toInt hd, nI_toInt (Nat.lt_of_le_of_lt (Nat.div_le_self a d) ha)]
  first | rfl | exact (Int.natCast_ediv _ _).symm
theorem pk_rem {a d : Nat} (ha : a < 2 ^ 31) (h0 : 0 < d) (hd : d < 2 ^ 31) : nI a - nI a / nI d * nI d = nI (a % d) := by
  rw [pk_div ha h0 hd, pk_mul, pk_sub (Nat.div_mul_le_self a d)]
  exact congrArg nI (by have := Nat.div_add_mod' a d; omega)
theorem pk_sub_toInt {a b : Nat} (ha : a < 2 ^ 30) (hb : b < 2 ^ 30) : (nI a - nI b).toInt = (a : Int) - b := by
  rw [Int32.toInt_sub, nI_toInt (by omega), nI_toInt (by omega)]
  exact Int.bmod_eq_of_le (by omega) (by omega)
theorem pk_sneg {a b : Nat} (hb : b < 2 ^ 30) (h : a < b) : nI a - nI b < 0 := by
  rw [Int32.lt_iff_toInt_lt, pk_sub_toInt (by omega) hb, show (0 : Int32).toInt = 0 from by decide]
  omega
theorem pk_ix (x : Int32) {n : Nat} (hn : n < 2 ^ 31) : x < 0 ∨ nI n ≤ x ∨ ∃ j : Nat, j < n ∧ x = nI j := by
  by_cases h : x < 0
  · exact Or.inl h
  · obtain ⟨j, hj, rfl⟩ := nI_of h
    by_cases h2 : j < n
    · exact Or.inr (Or.inr ⟨j, h2, rfl⟩)
    · exact Or.inr (Or.inl (nI_le (by omega) hj))
theorem pk_le {x y : Int32} {A B : Prop} (a b : Nat) (f : a ≤ b → A) (g : b < a → B) (hx : x = nI a := by rfl) (hy : y = nI b := by rfl) (ha : a < 2 ^ 31 := by omega) (hb : b < 2 ^ 31 := by omega) : (x ≤ y → A) ∧ (¬ x ≤ y → B) := by
  subst hx hy
  rw [nI_leI ha hb]
  exact ⟨f, fun z => g (by omega)⟩
theorem pk_lt {x y : Int32} {A B : Prop} (a b : Nat) (f : a < b → A) (g : b ≤ a → B) (hx : x = nI a := by rfl) (hy : y = nI b := by rfl) (ha : a < 2 ^ 31 := by omega) (hb : b < 2 ^ 31 := by omega) : (x < y → A) ∧ (¬ x < y → B) := by
  subst hx hy
  rw [nI_ltI ha hb]
  exact ⟨f, fun z => g (by omega)⟩
theorem pk_eq {x y : Int32} {A B : Prop} (a b : Nat) (f : a = b → A) (g : a ≠ b → B) (hx : x = nI a := by rfl) (hy : y = nI b := by rfl) (ha : a < 2 ^ 31 := by omega) (hb : b < 2 ^ 31 := by omega) : (x = y → A) ∧ (¬ x = y → B) := by
  subst hx hy
  rw [nI_eq ha hb]
  exact ⟨f, g⟩
theorem pk_in {x : Int32} (n N : Nat) (h : n < N) (hx : x = nI n := by rfl) (hN : N < 2 ^ 31 := by omega) : vp_in x N := by
  subst hx
  exact vp_in_nI h hN
theorem pk_cl {x : Int32} (n : Nat) (hx : x = nI n := by rfl) (h : n < 2 ^ 31 := by omega) : x.toNatClampNeg = n := by
  subst hx
  exact nI_clamp h
theorem pk_tn {n : Nat} (h : n < 2 ^ 32) : (nI n).toBitVec.toNat = n := Nat.mod_eq_of_lt h
theorem pk_and (x : Int32) {m : Int32} (k : Nat) (hm : m.toBitVec.toNat = 2 ^ k - 1) : x &&& m = nI (x.toBitVec.toNat % 2 ^ k) := by
  apply Int32.toBitVec_inj.mp
  apply BitVec.eq_of_toNat_eq
  rw [Int32.toBitVec_and, BitVec.toNat_and, hm, Nat.and_two_pow_sub_one_eq_mod]
  show _ = (BitVec.ofNat 32 _).toNat
  rw [BitVec.toNat_ofNat]
  exact (Nat.mod_eq_of_lt (Nat.lt_of_le_of_lt (Nat.mod_le _ _) x.toBitVec.isLt)).symm
theorem pk_andN {n : Nat} (h : n < 2 ^ 32) {m : Int32} (k : Nat) (hm : m.toBitVec.toNat = 2 ^ k - 1) : nI n &&& m = nI (n % 2 ^ k) := by
  rw [pk_and _ k hm, pk_tn h]
theorem pk_andE (x : Int32) {m : Int32} (k : Nat) (hm : m.toBitVec.toNat = 2 ^ k - 1) : ∃ j : Nat, j < 2 ^ k ∧ x &&& m = nI j := ⟨_, Nat.mod_lt _ (Nat.two_pow_pos k), pk_and x k hm⟩
theorem pk_andIn (x : Int32) {m : Int32} (k : Nat) (hm : m.toBitVec.toNat = 2 ^ k - 1) (hk : k ≤ 30) : vp_in (x &&& m) (2 ^ k) := by
  obtain ⟨j, hj, e⟩ := pk_andE x k hm
  rw [e]
  exact vp_in_nI hj (Nat.lt_of_le_of_lt (Nat.pow_le_pow_right (by decide) hk) (by decide))
theorem pk_nb (z : Int32) : narrow .byte (.int z.toInt8.toInt32) = .int z.toInt8.toInt32 := congrArg Value.int (by simp)
theorem pk_ns (z : Int32) : narrow .short (.int z.toInt16.toInt32) = .int z.toInt16.toInt32 := congrArg Value.int (by simp)
theorem pk_vb (z : Int32) : vp_nar .byte z.toInt8.toInt32 = z.toInt8.toInt32 := by rw [vp_nar_byte]; simp
theorem pk_vs (z : Int32) : vp_nar .short z.toInt16.toInt32 = z.toInt16.toInt32 := by rw [vp_nar_short]; simp
def bt (x : Int32) (i : Nat) : Bool := x.toBitVec.getLsbD i
theorem b_ext {x y : Int32} (h : ∀ i, i < 32 → bt x i = bt y i) : x = y := Int32.toBitVec_inj.mp (BitVec.eq_of_getLsbD_eq (fun i hi => h i hi))
theorem b_or (x y : Int32) (i : Nat) : bt (x ||| y) i = (bt x i || bt y i) := by unfold bt; rw [Int32.toBitVec_or, BitVec.getLsbD_or]
theorem b_and (x y : Int32) (i : Nat) : bt (x &&& y) i = (bt x i && bt y i) := by unfold bt; rw [Int32.toBitVec_and, BitVec.getLsbD_and]
theorem b_xor (x y : Int32) (i : Nat) : bt (x ^^^ y) i = (bt x i ^^ bt y i) := by unfold bt; rw [Int32.toBitVec_xor, BitVec.getLsbD_xor]
theorem b_big {x : Int32} {i : Nat} (h : 32 ≤ i) : bt x i = false := BitVec.getLsbD_of_ge _ _ h
theorem b_255 (i : Nat) : bt 255 i = decide (i < 8) := by
  rcases Nat.lt_or_ge i 32 with h | h
  · exact (by decide +kernel : ∀ i, i < 32 → bt 255 i = decide (i < 8)) i h
  · rw [b_big h, decide_eq_false (by omega)]
theorem b_65535 (i : Nat) : bt 65535 i = decide (i < 16) := by
  rcases Nat.lt_or_ge i 32 with h | h
  · exact (by decide +kernel : ∀ i, i < 32 → bt 65535 i = decide (i < 16)) i h
  · rw [b_big h, decide_eq_false (by omega)]
theorem b_m1 : ∀ i, i < 32 → bt (-1) i = true := by decide +kernel
theorem b_0 (i : Nat) : bt 0 i = false := BitVec.getLsbD_zero
theorem s_l : ∀ n, n < 32 → ((nI n &&& 31).toBitVec.smod 32).toNat = n := by decide +kernel
theorem s_u : ∀ n, n < 32 → (((nI n).toUInt32 &&& Int32.toUInt32 31).toBitVec % 32).toNat = n := by decide +kernel
theorem b_shl (n : Nat) (hn : n < 32) (x : Int32) {i : Nat} (hi : i < 32) : bt (x <<< (nI n &&& 31)) i = (decide (n ≤ i) && bt x (i - n)) := by
  unfold bt
  rw [Int32.toBitVec_shiftLeft]
  show (x.toBitVec <<< ((nI n &&& 31).toBitVec.smod 32).toNat).getLsbD i = _
  rw [s_l n hn, BitVec.getLsbD_shiftLeft]
  rcases Nat.lt_or_ge i n with h | h
  · simp [h, Nat.not_le.mpr h]
  · simp [hi, h, Nat.not_lt.mpr h]
theorem b_ushr (n : Nat) (hn : n < 32) (x : Int32) (i : Nat) : bt ((x.toUInt32 >>> ((nI n).toUInt32 &&& Int32.toUInt32 31)).toInt32) i = bt x (n + i) := by
  show (x.toUInt32 >>> ((nI n).toUInt32 &&& Int32.toUInt32 31)).toBitVec.getLsbD i = x.toUInt32.toBitVec.getLsbD (n + i)
  rw [UInt32.toBitVec_shiftRight]
  show (x.toUInt32.toBitVec >>> (((nI n).toUInt32 &&& Int32.toUInt32 31).toBitVec % 32).toNat).getLsbD i = _
  rw [s_u n hn, BitVec.getLsbD_ushiftRight]
theorem b_sshr (n : Nat) (hn : n < 32) (x : Int32) {i : Nat} (hi : i < 32) : bt (x >>> (nI n &&& 31)) i = if n + i < 32 then bt x (n + i) else bt x 31 := by
  unfold bt
  rw [Int32.toBitVec_shiftRight]
  show (x.toBitVec.sshiftRight ((nI n &&& 31).toBitVec.smod 32).toNat).getLsbD i = _
  rw [s_l n hn, BitVec.getLsbD_sshiftRight, BitVec.msb_eq_getLsbD_last]
  simp [hi]
theorem b_shl8 (x : Int32) {i : Nat} (hi : i < 32) : bt (x <<< ((8 : Int32) &&& 31)) i = (decide (8 ≤ i) && bt x (i - 8)) := b_shl 8 (by omega) x hi
theorem b_shl16 (x : Int32) {i : Nat} (hi : i < 32) : bt (x <<< ((16 : Int32) &&& 31)) i = (decide (16 ≤ i) && bt x (i - 16)) := b_shl 16 (by omega) x hi
theorem b_shl24 (x : Int32) {i : Nat} (hi : i < 32) : bt (x <<< ((24 : Int32) &&& 31)) i = (decide (24 ≤ i) && bt x (i - 24)) := b_shl 24 (by omega) x hi
theorem b_sshr8 (x : Int32) {i : Nat} (hi : i < 32) : bt (x >>> ((8 : Int32) &&& 31)) i = if 8 + i < 32 then bt x (8 + i) else bt x 31 := b_sshr 8 (by omega) x hi
end
section
/-! masks of eight bits: ms_k S is the int whose bit i is S i for i below 8 -/
def ms_n (S : Nat → Bool) : Nat → Int32
  | 0 => 0
  | n + 1 => ms_n S n ||| (if S n = true then (1 : Int32) <<< (nI n &&& 31) else 0)
def ms_k (S : Nat → Bool) : Int32 := ms_n S 8
theorem ms_b1 : ∀ i, i < 32 → bt 1 i = decide (i = 0) := by decide +kernel
theorem ms_one {n i : Nat} (hn : n < 32) (hi : i < 32) : bt ((1 : Int32) <<< (nI n &&& 31)) i = decide (i = n) := by
  rw [b_shl n hn _ hi, ms_b1 _ (by omega)]
  by_cases h : i = n
  · subst h; simp
  · rw [decide_eq_false h]
    by_cases h2 : n ≤ i
    · rw [decide_eq_true h2, decide_eq_false (by omega)]; rfl
    · rw [decide_eq_false h2]; rfl
theorem ms_nb (S : Nat → Bool) {i : Nat} (hi : i < 32) : ∀ n, n ≤ 32 → bt (ms_n S n) i = (decide (i < n) && S i) := by
  intro n
  induction n with
  | zero => intro _; show bt 0 i = _; rw [b_0]; simp
  | succ n ih =>
    intro hn
    show bt (ms_n S n ||| _) i = _
    rw [b_or, ih (by omega)]
    have e : bt (if S n = true then (1 : Int32) <<< (nI n &&& 31) else 0) i = (decide (i = n) && S n) := by
      by_cases h : S n = true
      · rw [if_pos h, ms_one (by omega) hi, h]; simp
      · rw [if_neg h, b_0]; simp [Bool.eq_false_iff.mpr h]
    rw [e]
    by_cases h1 : i = n
    · subst h1; simp
    · rw [decide_eq_false h1]
      by_cases h2 : i < n
      · rw [decide_eq_true h2, decide_eq_true (show i < n + 1 by omega)]; simp
      · rw [decide_eq_false h2, decide_eq_false (show ¬ i < n + 1 by omega)]; simp
theorem ms_bt (S : Nat → Bool) {i : Nat} (hi : i < 32) : bt (ms_k S) i = (decide (i < 8) && S i) := ms_nb S hi 8 (by omega)
theorem ms_ext {S T : Nat → Bool} (h : ∀ i, i < 8 → S i = T i) : ms_k S = ms_k T := by
  apply b_ext
  intro i hi
  rw [ms_bt S hi, ms_bt T hi]
  by_cases h8 : i < 8
  · rw [h i h8]
  · rw [decide_eq_false h8]; rfl
theorem ms_inj {S T : Nat → Bool} (h : ms_k S = ms_k T) : ∀ i, i < 8 → S i = T i := by
  intro i hi
  have e : bt (ms_k S) i = bt (ms_k T) i := by rw [h]
  rw [ms_bt S (by omega), ms_bt T (by omega), decide_eq_true hi] at e
  simpa using e
theorem ms_of {x : Int32} {S : Nat → Bool} (h : ∀ i, i < 32 → bt x i = (decide (i < 8) && S i)) : x = ms_k S :=
  b_ext fun i hi => (h i hi).trans (ms_bt S hi).symm
theorem ms_or (S T : Nat → Bool) : ms_k S ||| ms_k T = ms_k (fun i => S i || T i) := ms_of fun i hi => by
  rw [b_or, ms_bt S hi, ms_bt T hi]; cases decide (i < 8) <;> simp
theorem ms_and (S T : Nat → Bool) : ms_k S &&& ms_k T = ms_k (fun i => S i && T i) := ms_of fun i hi => by
  rw [b_and, ms_bt S hi, ms_bt T hi]; cases decide (i < 8) <;> simp
theorem ms_andn (S T : Nat → Bool) : ms_k S &&& (ms_k T ^^^ (-1)) = ms_k (fun i => S i && !T i) := ms_of fun i hi => by
  rw [b_and, b_xor, b_m1 i hi, ms_bt S hi, ms_bt T hi]; cases decide (i < 8) <;> simp
theorem ms_bit {b : Nat} (hb : b < 8) : (1 : Int32) <<< (nI b &&& 31) = ms_k (fun i => i == b) := ms_of fun i hi => by
  rw [ms_one (by omega) hi]
  by_cases h : i = b
  · subst h; simp [hb]
  · simp [h]
theorem ms_0 : (0 : Int32) = ms_k (fun _ => false) := ms_of fun i _ => by rw [b_0]; simp
theorem ms_1 : (1 : Int32) = ms_k (fun i => i == 0) := ms_of fun i hi => by
  rw [ms_b1 i hi]
  by_cases h : i = 0
  · subst h; simp
  · simp [h]
theorem ms_get (S : Nat → Bool) {b : Nat} (hb : b < 8) : ((ms_k S >>> (nI b &&& 31)) &&& 1) = if S b = true then 1 else 0 := by
  apply b_ext
  intro i hi
  rw [b_and, b_sshr b (by omega) _ hi, ms_b1 i hi]
  by_cases h0 : i = 0
  · subst h0
    rw [if_pos (by omega), ms_bt S (by omega), Nat.add_zero, decide_eq_true hb]
    by_cases h : S b = true
    · rw [if_pos h, h, ms_b1 0 (by omega)]; rfl
    · rw [if_neg h, b_0]; simp [Bool.eq_false_iff.mpr h]
  · rw [decide_eq_false h0, Bool.and_false]
    by_cases h : S b = true
    · rw [if_pos h, ms_b1 i hi, decide_eq_false h0]
    · rw [if_neg h, b_0]
theorem ms_get0 (S : Nat → Bool) {b : Nat} (hb : b < 8) : ((ms_k S >>> (nI b &&& 31)) &&& 1) = 0 ↔ S b = false := by
  rw [ms_get S hb]
  cases S b <;> decide
theorem ms_get1 (S : Nat → Bool) {b : Nat} (hb : b < 8) : ((ms_k S >>> (nI b &&& 31)) &&& 1) = 1 ↔ S b = true := by
  rw [ms_get S hb]
  cases S b <;> decide
theorem ms_getN (S : Nat → Bool) {b : Nat} (hb : b < 8) : ((ms_k S >>> (nI b &&& 31)) &&& 1) = nI (if S b = true then 1 else 0) := by
  rw [ms_get S hb]
  cases S b <;> rfl
theorem ms_255 (S : Nat → Bool) : ms_k S &&& 255 = ms_k S := (ms_of fun i hi => by
  rw [b_and, ms_bt S hi, b_255]; cases decide (i < 8) <;> simp)
theorem ms_small (S : Nat → Bool) : ∃ j, j < 256 ∧ ms_k S = nI j := by
  obtain ⟨j, hj, e⟩ := pk_andE (ms_k S) (m := 255) 8 (by decide)
  exact ⟨j, hj, (ms_255 S).symm.trans e⟩
theorem ms_i8 {n : Nat} (h : n < 128) : (nI n).toInt8.toInt32 = nI n := by
  apply lg_i2b_small <;> rw [nI_toInt (by omega)] <;> omega
theorem ms_i16 {n : Nat} (h : n < 32768) : (nI n).toInt16.toInt32 = nI n := by
  apply lg_i2s_small <;> rw [nI_toInt (by omega)] <;> omega
theorem ms_vb {n : Nat} (h : n < 128) : vp_nar .byte ((nI n).toInt8.toInt32) = nI n := by rw [pk_vb, ms_i8 h]
theorem ms_vb' {n : Nat} (h : n < 128) : vp_nar .byte (nI n) = nI n := by rw [vp_nar_byte, ms_i8 h]
theorem ms_vs {n : Nat} (h : n < 32768) : vp_nar .short ((nI n).toInt16.toInt32) = nI n := by rw [pk_vs, ms_i16 h]
theorem ms_vk (S : Nat → Bool) : vp_nar .short ((ms_k S).toInt16.toInt32) = ms_k S := by
  obtain ⟨j, hj, e⟩ := ms_small S
  rw [e, ms_vs (by omega)]
theorem ms_vs' {n : Nat} (h : n < 32768) : vp_nar .short (nI n) = nI n := by rw [vp_nar_short, ms_i16 h]
theorem ms_vm1 : vp_nar .byte ((-1 : Int32).toInt8.toInt32) = -1 := by rw [pk_vb]; decide
theorem ms_ne0 {S : Nat → Bool} {b : Nat} (hb : b < 8) (h : S b = true) : ¬ ms_k S = 0 := by
  intro e
  rw [ms_0] at e
  have := ms_inj e b hb
  rw [h] at this
  cases this
theorem ms_eq0 {S : Nat → Bool} (h : ∀ i, i < 8 → S i = false) : ms_k S = 0 := by
  rw [ms_0]; exact ms_ext h
theorem ms_all0 {S : Nat → Bool} (h : ms_k S = 0) : ∀ i, i < 8 → S i = false := by
  rw [ms_0] at h; exact ms_inj h
end
section
/-! counting, reaching, dominating: no program in sight -/
def gr_c (S : Nat → Bool) : Nat → Nat
  | 0 => 0
  | n + 1 => gr_c S n + (if S n = true then 1 else 0)
theorem gr_c_le (S : Nat → Bool) : ∀ n, gr_c S n ≤ n := by
  intro n
  induction n with
  | zero => exact Nat.le_refl _
  | succ n ih =>
    show gr_c S n + (if S n = true then 1 else 0) ≤ n + 1
    split <;> omega
theorem gr_c_mono {S T : Nat → Bool} : ∀ n, (∀ i, i < n → S i = true → T i = true) → gr_c S n ≤ gr_c T n := by
  intro n
  induction n with
  | zero => intro _; exact Nat.le_refl _
  | succ n ih =>
    intro h
    have h1 := ih fun i hi => h i (by omega)
    show gr_c S n + (if S n = true then 1 else 0) ≤ gr_c T n + (if T n = true then 1 else 0)
    by_cases hs : S n = true
    · rw [if_pos hs, if_pos (h n (by omega) hs)]; omega
    · rw [if_neg hs]; omega
theorem gr_c_lt {S T : Nat → Bool} {c : Nat} (hT : T c = true) (hS : S c = false) : ∀ n, (∀ i, i < n → S i = true → T i = true) → c < n → gr_c S n < gr_c T n := by
  intro n
  induction n with
  | zero => intro _ h; omega
  | succ n ih =>
    intro h hc
    show gr_c S n + (if S n = true then 1 else 0) < gr_c T n + (if T n = true then 1 else 0)
    by_cases e : c = n
    · subst e
      have h1 := gr_c_mono c fun i hi => h i (by omega)
      rw [if_pos hT, if_neg (by rw [hS]; decide)]; omega
    · have h1 := ih (fun i hi => h i (by omega)) (by omega)
      by_cases hs : S n = true
      · rw [if_pos hs, if_pos (h n (by omega) hs)]; omega
      · rw [if_neg hs]; omega
theorem gr_c_full {S : Nat → Bool} : ∀ n, n ≤ gr_c S n → ∀ i, i < n → S i = true := by
  intro n
  induction n with
  | zero => intro _ i hi; omega
  | succ n ih =>
    intro h i hi
    have h1 := gr_c_le S n
    have h2 : n + 1 ≤ gr_c S n + (if S n = true then 1 else 0) := h
    by_cases hs : S n = true
    · rw [if_pos hs] at h2
      by_cases e : i = n
      · rw [e]; exact hs
      · exact ih (by omega) i (by omega)
    · rw [if_neg hs] at h2; omega
theorem gr_c_congr {S T : Nat → Bool} : ∀ n, (∀ i, i < n → S i = T i) → gr_c S n = gr_c T n := by
  intro n
  induction n with
  | zero => intro _; rfl
  | succ n ih =>
    intro h
    show gr_c S n + (if S n = true then 1 else 0) = gr_c T n + (if T n = true then 1 else 0)
    rw [ih fun i hi => h i (by omega), h n (by omega)]
theorem gr_c_all {S T : Nat → Bool} (n : Nat) (h : ∀ i, i < n → S i = true → T i = true) (e : gr_c S n = gr_c T n) : ∀ i, i < n → T i = true → S i = true := by
  intro i hi hT
  cases hS : S i with
  | true => rfl
  | false => have := gr_c_lt hT hS n h hi; omega
theorem gr_c_put {S T : Nat → Bool} {c : Nat} (hS : S c = false) (hT : T c = true) : ∀ n, (∀ i, i < n → i ≠ c → T i = S i) → c < n → gr_c T n = gr_c S n + 1 := by
  intro n
  induction n with
  | zero => intro _ h; omega
  | succ n ih =>
    intro h hc
    show gr_c T n + (if T n = true then 1 else 0) = gr_c S n + (if S n = true then 1 else 0) + 1
    by_cases e : c = n
    · subst e
      rw [gr_c_congr c fun i hi => h i (by omega) (by omega), if_pos hT, if_neg (by rw [hS]; decide)]
    · rw [ih (fun i hi => h i (by omega)) (by omega), h n (by omega) (by omega)]; omega
/-- reached by substeps: n of them, from 0, without h (8: none) -/
def gr_s (e : Nat → Nat → Bool) (h : Nat) : Nat → Nat → Bool
  | 0 => fun c => (c == 0) && !(h == 0)
  | n + 1 => fun c => (gr_s e h n c || (gr_s e h n (n % 8) && e (n % 8) c)) && !(c == h)
theorem gr_s_st {e : Nat → Nat → Bool} {h n c : Nat} : gr_s e h (n + 1) c = true ↔ (gr_s e h n c = true ∨ (gr_s e h n (n % 8) = true ∧ e (n % 8) c = true)) ∧ c ≠ h := by
  show ((gr_s e h n c || (gr_s e h n (n % 8) && e (n % 8) c)) && !(c == h)) = true ↔ _
  simp
theorem gr_s_z {e : Nat → Nat → Bool} {h c : Nat} : gr_s e h 0 c = true ↔ c = 0 ∧ h ≠ 0 := by
  show ((c == 0) && !(h == 0)) = true ↔ _
  simp
theorem gr_s_h {e : Nat → Nat → Bool} {h : Nat} : ∀ {n c : Nat}, gr_s e h n c = true → c ≠ h := by
  intro n
  cases n with
  | zero => intro c hc; rw [gr_s_z] at hc; omega
  | succ n => intro c hc; exact (gr_s_st.mp hc).2
theorem gr_s_up {e : Nat → Nat → Bool} {h n c : Nat} (hc : gr_s e h n c = true) : gr_s e h (n + 1) c = true :=
  gr_s_st.mpr ⟨Or.inl hc, gr_s_h hc⟩
theorem gr_s_mono {e : Nat → Nat → Bool} {h c : Nat} {n : Nat} (hc : gr_s e h n c = true) : ∀ d, gr_s e h (n + d) c = true := by
  intro d
  induction d with
  | zero => exact hc
  | succ d ih => exact gr_s_up ih
theorem gr_s_0 {e : Nat → Nat → Bool} {h : Nat} (h0 : h ≠ 0) (n : Nat) : gr_s e h n 0 = true := by
  have := gr_s_mono (e := e) (h := h) (c := 0) (n := 0) (gr_s_z.mpr ⟨rfl, h0⟩) n
  rwa [Nat.zero_add] at this
theorem gr_s_least {e : Nat → Nat → Bool} {h : Nat} (Q : Nat → Prop) (q0 : h ≠ 0 → Q 0) (qs : ∀ a c, a < 8 → c < 8 → Q a → e a c = true → c ≠ h → Q c) : ∀ n c, c < 8 → gr_s e h n c = true → Q c := by
  intro n
  induction n with
  | zero => intro c _ hc; rw [gr_s_z] at hc; rw [hc.1]; exact q0 hc.2
  | succ n ih =>
    intro c h8 hc
    obtain ⟨hc, hne⟩ := gr_s_st.mp hc
    rcases hc with hc | ⟨ha, he⟩
    · exact ih c h8 hc
    · exact qs (n % 8) c (Nat.mod_lt _ (by omega)) h8 (ih _ (Nat.mod_lt _ (by omega)) ha) he hne
def gr_K (e : Nat → Nat → Bool) (h : Nat) (S : Nat → Bool) : Prop := ∀ a c, a < 8 → c < 8 → S a = true → e a c = true → c ≠ h → S c = true
theorem gr_s_stay {e : Nat → Nat → Bool} {h n : Nat} (K : gr_K e h (gr_s e h n)) : ∀ d c, c < 8 → gr_s e h (n + d) c = gr_s e h n c := by
  intro d
  induction d with
  | zero => intro c _; rfl
  | succ d ih =>
    intro c h8
    cases hc : gr_s e h n c with
    | true => exact gr_s_mono hc _
    | false =>
      cases hd : gr_s e h (n + (d + 1)) c with
      | false => rfl
      | true =>
        obtain ⟨h1, hne⟩ := (gr_s_st (n := n + d)).mp hd
        rcases h1 with h1 | ⟨h1, h2⟩
        · rw [ih c h8, hc] at h1; cases h1
        · rw [ih _ (Nat.mod_lt _ (by omega))] at h1
          have := K _ c (Nat.mod_lt _ (by omega)) h8 h1 h2 hne
          rw [hc] at this; cases this
theorem gr_s_grow {e : Nat → Nat → Bool} {h k : Nat} (K : ¬ gr_K e h (gr_s e h (8 * k))) : gr_c (gr_s e h (8 * k)) 8 < gr_c (gr_s e h (8 * (k + 1))) 8 := by
  have : ∃ a c, a < 8 ∧ c < 8 ∧ gr_s e h (8 * k) a = true ∧ e a c = true ∧ c ≠ h ∧ gr_s e h (8 * k) c = false := by
    refine Classical.byContradiction fun N => K fun a c ha hc h1 h2 h3 => ?_
    cases h4 : gr_s e h (8 * k) c with
    | true => rfl
    | false => exact absurd ⟨a, c, ha, hc, h1, h2, h3, h4⟩ N
  obtain ⟨a, c, ha, hc, h1, h2, h3, h4⟩ := this
  have e1 : 8 * (k + 1) = 8 * k + 8 := by omega
  refine gr_c_lt (c := c) ?_ h4 8 (fun i _ hi => ?_) hc
  · have m : (8 * k + a) % 8 = a := by omega
    have h5 : gr_s e h (8 * k + a + 1) c = true := gr_s_st.mpr ⟨Or.inr (by rw [m]; exact ⟨gr_s_mono h1 a, h2⟩), h3⟩
    have h6 := gr_s_mono h5 (7 - a)
    rwa [show 8 * k + a + 1 + (7 - a) = 8 * (k + 1) by omega] at h6
  · rw [e1]; exact gr_s_mono hi 8
theorem gr_s_conv {e : Nat → Nat → Bool} {h : Nat} : ∀ k, gr_K e h (gr_s e h (8 * k)) ∨ k ≤ gr_c (gr_s e h (8 * k)) 8 := by
  intro k
  induction k with
  | zero => exact Or.inr (Nat.zero_le _)
  | succ k ih =>
    by_cases K : gr_K e h (gr_s e h (8 * k))
    · refine Or.inl fun a c ha hc h1 h2 h3 => ?_
      rw [show 8 * (k + 1) = 8 * k + 8 by omega] at h1 ⊢
      rw [gr_s_stay K 8 a ha] at h1
      rw [gr_s_stay K 8 c hc]
      exact K a c ha hc h1 h2 h3
    · have := gr_s_grow K
      rcases ih with ih | ih
      · exact absurd ih K
      · exact Or.inr (by omega)
def gr_R (e : Nat → Nat → Bool) (h : Nat) : Nat → Bool := gr_s e h 64
theorem gr_R_cl {e : Nat → Nat → Bool} {h : Nat} {a c : Nat} (ha : a < 8) (hc : c < 8) (h1 : gr_R e h a = true) (h2 : e a c = true) (h3 : c ≠ h) : gr_R e h c = true := by
  rcases gr_s_conv (e := e) (h := h) 8 with K | K
  · exact K a c ha hc h1 h2 h3
  · exact gr_c_full 8 K c hc
theorem gr_R_h {e : Nat → Nat → Bool} {h c : Nat} (hc : gr_R e h c = true) : c ≠ h := gr_s_h hc
theorem gr_R_0 {e : Nat → Nat → Bool} {h : Nat} (h0 : h ≠ 0) : gr_R e h 0 = true := gr_s_0 h0 64
theorem gr_R_least {e : Nat → Nat → Bool} {h : Nat} (Q : Nat → Prop) (q0 : h ≠ 0 → Q 0) (qs : ∀ a c, a < 8 → c < 8 → Q a → e a c = true → c ≠ h → Q c) {c : Nat} (hc : c < 8) (h1 : gr_R e h c = true) : Q c :=
  gr_s_least Q q0 qs 64 c hc h1
def gr_L (e : Nat → Nat → Bool) : Nat → Bool := gr_R e 8
theorem gr_L_0 {e : Nat → Nat → Bool} : gr_L e 0 = true := gr_R_0 (by decide)
theorem gr_L_cl {e : Nat → Nat → Bool} {a c : Nat} (ha : a < 8) (hc : c < 8) (h1 : gr_L e a = true) (h2 : e a c = true) : gr_L e c = true := gr_R_cl ha hc h1 h2 (by omega)
theorem gr_L_least {e : Nat → Nat → Bool} (Q : Nat → Prop) (q0 : Q 0) (qs : ∀ a c, a < 8 → c < 8 → Q a → e a c = true → Q c) {c : Nat} (hc : c < 8) (h1 : gr_L e c = true) : Q c :=
  gr_R_least Q (fun _ => q0) (fun a c ha hc q h _ => qs a c ha hc q h) hc h1
theorem gr_R_L {e : Nat → Nat → Bool} {h c : Nat} (hc : c < 8) (h1 : gr_R e h c = true) : gr_L e c = true :=
  gr_R_least (fun c => gr_L e c = true) (fun _ => gr_L_0) (fun _ _ ha hc q h2 _ => gr_L_cl ha hc q h2) hc h1
/-- h dominates b -/
def gr_D (e : Nat → Nat → Bool) (b h : Nat) : Bool := gr_L e b && gr_L e h && !(gr_R e h b)
theorem gr_D_i {e : Nat → Nat → Bool} {b h : Nat} : gr_D e b h = true ↔ gr_L e b = true ∧ gr_L e h = true ∧ gr_R e h b = false := by
  unfold gr_D
  simp [and_assoc]
theorem gr_nb {x : Bool} (h : ¬ x = true) : x = false := by cases x with | true => exact absurd rfl h | false => rfl
theorem gr_bn {x : Bool} (h : x = false) : ¬ x = true := by rw [h]; decide
theorem gr_D_r {e : Nat → Nat → Bool} {b : Nat} (h : gr_L e b = true) : gr_D e b b = true :=
  gr_D_i.mpr ⟨h, h, gr_nb fun z => gr_R_h z rfl⟩
theorem gr_D_0 {e : Nat → Nat → Bool} {b : Nat} (hb : b < 8) (h : gr_L e b = true) : gr_D e b 0 = true :=
  gr_D_i.mpr ⟨h, gr_L_0, gr_nb fun z => gr_R_least (e := e) (h := 0) (fun _ => False) (fun z => z rfl) (fun _ _ _ _ q _ _ => q) hb z⟩
theorem gr_D_00 {e : Nat → Nat → Bool} {h : Nat} (hd : gr_D e 0 h = true) : h = 0 := by
  obtain ⟨_, _, h3⟩ := gr_D_i.mp hd
  by_cases z : h = 0
  · exact z
  · rw [gr_R_0 z] at h3; cases h3
theorem gr_D_pred {e : Nat → Nat → Bool} {t d b : Nat} (ht : t < 8) (hb : b < 8) (hd : gr_D e t d = true) (hne : d ≠ t) (hL : gr_L e b = true) (he : e b t = true) : gr_D e b d = true := by
  obtain ⟨_, h2, h3⟩ := gr_D_i.mp hd
  refine gr_D_i.mpr ⟨hL, h2, gr_nb fun z => ?_⟩
  rw [gr_R_cl hb ht z he fun q => hne q.symm] at h3; cases h3
theorem gr_D_trans {e : Nat → Nat → Bool} {b a x : Nat} (hb : b < 8) (h1 : gr_D e b a = true) (h2 : gr_D e a x = true) : gr_D e b x = true := by
  obtain ⟨l1, l2, r1⟩ := gr_D_i.mp h1
  obtain ⟨_, l3, r2⟩ := gr_D_i.mp h2
  refine gr_D_i.mpr ⟨l1, l3, gr_nb fun z => ?_⟩
  by_cases a0 : a = 0
  · subst a0
    have hx := gr_D_00 h2
    subst hx
    rw [z] at r1; cases r1
  · have := gr_R_least (e := e) (h := x) (fun c => gr_R e x c = true ∧ gr_R e a c = true) (fun z0 => ⟨gr_R_0 z0, gr_R_0 a0⟩) (fun p c hp hc q he hne => by
      have hx := gr_R_cl hp hc q.1 he hne
      refine ⟨hx, gr_R_cl hp hc q.2 he fun z1 => ?_⟩
      rw [z1] at hx; rw [hx] at r2; cases r2) hb z
    rw [this.2] at r1; cases r1
theorem gr_D_anti {e : Nat → Nat → Bool} {a b : Nat} (ha : a < 8) (h1 : gr_D e b a = true) (h2 : gr_D e a b = true) : a = b := by
  obtain ⟨l1, l2, r1⟩ := gr_D_i.mp h1
  obtain ⟨_, _, r2⟩ := gr_D_i.mp h2
  by_cases n : a = b
  · exact n
  · by_cases a0 : a = 0
    · subst a0; exact (gr_D_00 h2).symm
    by_cases b0 : b = 0
    · subst b0; exact gr_D_00 h1
    have := gr_L_least (e := e) (fun c => gr_R e a c = true ∧ gr_R e b c = true) ⟨gr_R_0 a0, gr_R_0 b0⟩ (fun p c hp hc q he => by
      have na : c ≠ a := fun z => by
        subst z
        rw [gr_R_cl hp hc q.2 he n] at r2; cases r2
      have nb : c ≠ b := fun z => by
        subst z
        rw [gr_R_cl hp hc q.1 he na] at r1; cases r1
      exact ⟨gr_R_cl hp hc q.1 he na, gr_R_cl hp hc q.2 he nb⟩) ha l2
    exact absurd rfl (gr_R_h this.1)
theorem gr_D_chain {e : Nat → Nat → Bool} {b x y : Nat} (hb : b < 8) (h1 : gr_D e b x = true) (h2 : gr_D e b y = true) : gr_D e x y = true ∨ gr_D e y x = true := by
  obtain ⟨lb, lx, r1⟩ := gr_D_i.mp h1
  obtain ⟨_, ly, r2⟩ := gr_D_i.mp h2
  cases hx : gr_R e y x with
  | false => exact Or.inl (gr_D_i.mpr ⟨lx, ly, hx⟩)
  | true =>
    cases hy : gr_R e x y with
    | false => exact Or.inr (gr_D_i.mpr ⟨ly, lx, hy⟩)
    | true =>
      have := gr_L_least (e := e) (fun c => gr_R e x c = true ∨ gr_R e y c = true) (by
          by_cases x0 : x = 0
          · subst x0; exact Or.inr hx
          · exact Or.inl (gr_R_0 x0)) (fun p c hp hc q he => by
        rcases q with q | q
        · by_cases z : c = x
          · subst z; exact Or.inr hx
          · exact Or.inl (gr_R_cl hp hc q he z)
        · by_cases z : c = y
          · subst z; exact Or.inl hy
          · exact Or.inr (gr_R_cl hp hc q he z)) hb lb
      rcases this with q | q
      · rw [q] at r1; cases r1
      · rw [q] at r2; cases r2
/-- a strict dominator has fewer dominators -/
theorem gr_D_size {e : Nat → Nat → Bool} {a b : Nat} (ha : a < 8) (hb : b < 8) (h : gr_D e b a = true) (n : a ≠ b) : gr_c (gr_D e a) 8 < gr_c (gr_D e b) 8 := by
  obtain ⟨lb, la, _⟩ := gr_D_i.mp h
  refine gr_c_lt (c := b) (gr_D_r lb) (gr_nb fun z => n (gr_D_anti ha h z)) 8 (fun i _ hi => gr_D_trans hb h hi) hb
end
section
/-! the component's way to dominators; forward edges; order and rings -/
def gr_m (L : Nat → Bool) (e : Nat → Nat → Bool) (D : Nat → Nat → Bool) (b h : Nat) : Nat → Bool
  | 0 => L h
  | n + 1 => gr_m L e D b h n && (!(L n && e n b) || D n h)
theorem gr_m_i {L : Nat → Bool} {e : Nat → Nat → Bool} {D : Nat → Nat → Bool} {b h : Nat} : ∀ n, gr_m L e D b h n = true ↔ L h = true ∧ ∀ a, a < n → L a = true → e a b = true → D a h = true := by
  intro n
  induction n with
  | zero => exact ⟨fun z => ⟨z, fun a ha => by omega⟩, fun z => z.1⟩
  | succ n ih =>
    show (gr_m L e D b h n && (!(L n && e n b) || D n h)) = true ↔ _
    rw [Bool.and_eq_true, ih]
    constructor
    · rintro ⟨⟨h1, h2⟩, h3⟩
      refine ⟨h1, fun a ha q1 q2 => ?_⟩
      by_cases z : a = n
      · subst z
        rw [q1, q2] at h3
        simpa using h3
      · exact h2 a (by omega) q1 q2
    · rintro ⟨h1, h2⟩
      refine ⟨⟨h1, fun a ha => h2 a (by omega)⟩, ?_⟩
      cases q1 : L n with
      | false => rfl
      | true =>
        cases q2 : e n b with
        | false => rfl
        | true => rw [h2 n (by omega) q1 q2]; rfl
def gr_u (L : Nat → Bool) (e : Nat → Nat → Bool) (D : Nat → Nat → Bool) (b : Nat) : Nat → Nat → Bool :=
  fun x h => if x = b ∧ L b = true then gr_m L e D b h 8 || (h == b) else D x h
def gr_I (L : Nat → Bool) (e : Nat → Nat → Bool) : Nat → Nat → Nat → Bool
  | 0 => fun b h => if b = 0 then h == 0 else L b && L h
  | m + 1 => gr_u L e (gr_I L e m) (m % 7 + 1)
theorem gr_I_up {L : Nat → Bool} {e : Nat → Nat → Bool} {m x h : Nat} (hx : x = m % 7 + 1) (hl : L x = true) : gr_I L e (m + 1) x h = (gr_m L e (gr_I L e m) x h 8 || (h == x)) := by
  show gr_u L e (gr_I L e m) (m % 7 + 1) x h = _
  rw [← hx]
  exact if_pos ⟨rfl, hl⟩
theorem gr_I_no {L : Nat → Bool} {e : Nat → Nat → Bool} {m x h : Nat} (hx : ¬ (x = m % 7 + 1 ∧ L x = true)) : gr_I L e (m + 1) x h = gr_I L e m x h := by
  refine if_neg fun z => hx ⟨z.1, ?_⟩
  rw [z.1]; exact z.2
theorem gr_I_0 {L : Nat → Bool} {e : Nat → Nat → Bool} {h : Nat} : ∀ m, gr_I L e m 0 h = (h == 0) := by
  intro m
  induction m with
  | zero => rfl
  | succ m ih => rw [gr_I_no (fun z => by omega), ih]
theorem gr_I_dead {L : Nat → Bool} {e : Nat → Nat → Bool} {b h : Nat} (h0 : L 0 = true) (hb : L b = false) : ∀ m, gr_I L e m b h = false := by
  intro m
  induction m with
  | zero =>
    show (if b = 0 then h == 0 else L b && L h) = false
    rw [if_neg (fun z => by rw [z, h0] at hb; cases hb), hb]; rfl
  | succ m ih => rw [gr_I_no (fun z => by rw [hb] at z; exact absurd z.2 (by decide)), ih]
theorem gr_I_live {L : Nat → Bool} {e : Nat → Nat → Bool} {b h : Nat} (h0 : L 0 = true) : ∀ m, gr_I L e m b h = true → L h = true := by
  intro m
  induction m with
  | zero =>
    intro z
    have z : (if b = 0 then h == 0 else L b && L h) = true := z
    by_cases b0 : b = 0
    · rw [if_pos b0] at z
      have : h = 0 := by simpa using z
      rw [this]; exact h0
    · rw [if_neg b0] at z
      simp at z; exact z.2
  | succ m ih =>
    intro z
    by_cases q : b = m % 7 + 1 ∧ L b = true
    · rw [gr_I_up q.1 q.2, Bool.or_eq_true] at z
      rcases z with z | z
      · exact ((gr_m_i 8).mp z).1
      · have : h = b := by simpa using z
        rw [this]; exact q.2
    · rw [gr_I_no q] at z; exact ih z
theorem gr_I_ge {e : Nat → Nat → Bool} : ∀ m b h, b < 8 → h < 8 → gr_D e b h = true → gr_I (gr_L e) e m b h = true := by
  intro m
  induction m with
  | zero =>
    intro b h hb hh hd
    show (if b = 0 then h == 0 else gr_L e b && gr_L e h) = true
    by_cases b0 : b = 0
    · subst b0
      rw [if_pos rfl, gr_D_00 hd]; rfl
    · rw [if_neg b0, (gr_D_i.mp hd).1, (gr_D_i.mp hd).2.1]; rfl
  | succ m ih =>
    intro b h hb hh hd
    by_cases q : b = m % 7 + 1 ∧ gr_L e b = true
    · rw [gr_I_up q.1 q.2, Bool.or_eq_true]
      by_cases z : h = b
      · right; simpa using z
      · left
        exact (gr_m_i 8).mpr ⟨(gr_D_i.mp hd).2.1, fun a ha la he => ih a h ha hh (gr_D_pred hb ha hd z la he)⟩
    · rw [gr_I_no q]; exact ih b h hb hh hd
theorem gr_I_lt {e : Nat → Nat → Bool} {h : Nat} : ∀ n c, c < 8 → gr_s e h n c = true → ∀ d, gr_I (gr_L e) e (7 * n + d) c h = false := by
  intro n
  induction n with
  | zero =>
    intro c hc hs d
    obtain ⟨z1, z2⟩ := gr_s_z.mp hs
    subst z1
    rw [gr_I_0]; simpa using z2
  | succ n ih =>
    intro c hc hs d
    obtain ⟨z1, z2⟩ := gr_s_st.mp hs
    rcases z1 with z1 | ⟨z1, z3⟩
    · have := ih c hc z1 (7 + d)
      rwa [show 7 * n + (7 + d) = 7 * (n + 1) + d by omega] at this
    · have ha : n % 8 < 8 := Nat.mod_lt _ (by omega)
      have hla : gr_L e (n % 8) = true := gr_s_least (fun c => gr_L e c = true) (fun _ => gr_L_0) (fun _ _ p q r s _ => gr_L_cl p q r s) n _ ha z1
      have hlc : gr_L e c = true := gr_L_cl ha hc hla z3
      by_cases c0 : c = 0
      · subst c0
        rw [gr_I_0]
        exact gr_nb fun z => z2 (show h = 0 by simpa using z).symm
      have up : ∀ m, 7 * n ≤ m → c = m % 7 + 1 → gr_I (gr_L e) e (m + 1) c h = false := by
        intro m hm q
        rw [gr_I_up q hlc]
        refine gr_nb fun z => ?_
        rw [Bool.or_eq_true] at z
        rcases z with z | z
        · have := ((gr_m_i 8).mp z).2 (n % 8) ha hla z3
          have f := ih (n % 8) ha z1 (m - 7 * n)
          rw [show 7 * n + (m - 7 * n) = m by omega] at f
          rw [f] at this; cases this
        · have : h = c := by simpa using z
          exact z2 this.symm
      have all : ∀ d, gr_I (gr_L e) e (7 * n + c + d) c h = false := by
        intro d
        induction d with
        | zero =>
          have := up (7 * n + (c - 1)) (by omega) (by omega)
          rwa [show 7 * n + (c - 1) + 1 = 7 * n + c + 0 by omega] at this
        | succ d id =>
          by_cases q : c = (7 * n + c + d) % 7 + 1 ∧ gr_L e c = true
          · exact up (7 * n + c + d) (by omega) q.1
          · show gr_I (gr_L e) e (7 * n + c + d + 1) c h = false
            rw [gr_I_no q]; exact id
      have := all (7 - c + d)
      rwa [show 7 * n + c + (7 - c + d) = 7 * (n + 1) + d by omega] at this
/-- the component's dominators are the reference's -/
theorem gr_I_D {e : Nat → Nat → Bool} {b h : Nat} (hb : b < 8) (hh : h < 8) : gr_I (gr_L e) e 448 b h = gr_D e b h := by
  cases hd : gr_D e b h with
  | true => exact gr_I_ge 448 b h hb hh hd
  | false =>
    refine gr_nb fun z => ?_
    cases lb : gr_L e b with
    | false => rw [gr_I_dead gr_L_0 lb] at z; cases z
    | true =>
      have lh := gr_I_live gr_L_0 448 z
      cases r : gr_R e h b with
      | false => rw [gr_D_i.mpr ⟨lb, lh, r⟩] at hd; cases hd
      | true =>
        have := gr_I_lt 64 b hb r 0
        rw [this] at z; cases z
/-- forward edges -/
def gr_F (e : Nat → Nat → Bool) (a c : Nat) : Bool := gr_L e a && e a c && !(gr_D e a c)
theorem gr_F_i {e : Nat → Nat → Bool} {a c : Nat} : gr_F e a c = true ↔ gr_L e a = true ∧ e a c = true ∧ gr_D e a c = false := by
  unfold gr_F
  simp [and_assoc]
theorem gr_F_L {e : Nat → Nat → Bool} {a c : Nat} (ha : a < 8) (hc : c < 8) (h : gr_F e a c = true) : gr_L e c = true :=
  gr_L_cl ha hc (gr_F_i.mp h).1 (gr_F_i.mp h).2.1
/-- back edges -/
def gr_B (e : Nat → Nat → Bool) (a c : Nat) : Bool := gr_L e a && e a c && gr_D e a c
theorem gr_B_i {e : Nat → Nat → Bool} {a c : Nat} : gr_B e a c = true ↔ gr_L e a = true ∧ e a c = true ∧ gr_D e a c = true := by
  unfold gr_B
  simp [and_assoc]
/-- some of the first n -/
def gr_x (P : Nat → Bool) : Nat → Bool
  | 0 => false
  | n + 1 => gr_x P n || P n
theorem gr_x_i {P : Nat → Bool} : ∀ n, gr_x P n = true ↔ ∃ a, a < n ∧ P a = true := by
  intro n
  induction n with
  | zero => exact ⟨fun z => (Bool.false_ne_true z).elim, fun ⟨a, h, _⟩ => by omega⟩
  | succ n ih =>
    show (gr_x P n || P n) = true ↔ _
    rw [Bool.or_eq_true, ih]
    constructor
    · rintro (⟨a, h1, h2⟩ | h)
      · exact ⟨a, by omega, h2⟩
      · exact ⟨n, by omega, h⟩
    · rintro ⟨a, h1, h2⟩
      by_cases z : a = n
      · subst z; exact Or.inr h2
      · exact Or.inl ⟨a, by omega, h2⟩
/-- loop heads, merges -/
def gr_H (e : Nat → Nat → Bool) (c : Nat) : Bool := gr_x (fun a => gr_B e a c) 8
def gr_M (e : Nat → Nat → Bool) (c : Nat) : Bool := decide (2 ≤ gr_c (fun a => gr_F e a c) 8)
/-- onward: one pass of the reference's closing -/
def gr_o (F : Nat → Nat → Bool) (S : Nat → Bool) : Nat → Nat → Bool
  | 0 => S
  | n + 1 => fun c => gr_o F S n c || (S n && F n c)
theorem gr_o_i {F : Nat → Nat → Bool} {S : Nat → Bool} {c : Nat} : ∀ n, gr_o F S n c = true ↔ S c = true ∨ ∃ a, a < n ∧ S a = true ∧ F a c = true := by
  intro n
  induction n with
  | zero => exact ⟨Or.inl, fun z => z.elim id fun ⟨a, h, _⟩ => by omega⟩
  | succ n ih =>
    show (gr_o F S n c || (S n && F n c)) = true ↔ _
    rw [Bool.or_eq_true, ih, Bool.and_eq_true]
    constructor
    · rintro ((h | ⟨a, h1, h2⟩) | h)
      · exact Or.inl h
      · exact Or.inr ⟨a, by omega, h2⟩
      · exact Or.inr ⟨n, by omega, h⟩
    · rintro (h | ⟨a, h1, h2⟩)
      · exact Or.inl (Or.inl h)
      · by_cases z : a = n
        · subst z; exact Or.inr h2
        · exact Or.inl (Or.inr ⟨a, by omega, h2⟩)
def gr_p (F : Nat → Nat → Bool) (b : Nat) : Nat → Nat → Bool
  | 0 => F b
  | k + 1 => gr_o F (gr_p F b k) 8
theorem gr_p_st {F : Nat → Nat → Bool} {b k c : Nat} : gr_p F b (k + 1) c = true ↔ gr_p F b k c = true ∨ ∃ a, a < 8 ∧ gr_p F b k a = true ∧ F a c = true := gr_o_i 8
theorem gr_p_least {F : Nat → Nat → Bool} {b : Nat} (Q : Nat → Prop) (q0 : ∀ c, c < 8 → F b c = true → Q c) (qs : ∀ a c, a < 8 → c < 8 → Q a → F a c = true → Q c) : ∀ k c, c < 8 → gr_p F b k c = true → Q c := by
  intro k
  induction k with
  | zero => exact q0
  | succ k ih =>
    intro c hc h
    rcases gr_p_st.mp h with h | ⟨a, ha, h1, h2⟩
    · exact ih c hc h
    · exact qs a c ha hc (ih a ha h1) h2
theorem gr_p_conv {F : Nat → Nat → Bool} {b : Nat} : ∀ k, (∀ a c, a < 8 → c < 8 → gr_p F b k a = true → F a c = true → gr_p F b k c = true) ∨ k ≤ gr_c (gr_p F b k) 8 := by
  intro k
  induction k with
  | zero => exact Or.inr (Nat.zero_le _)
  | succ k ih =>
    by_cases K : ∀ a c, a < 8 → c < 8 → gr_p F b k a = true → F a c = true → gr_p F b k c = true
    · left
      intro a c ha hc h1 h2
      have ha1 : gr_p F b k a = true := by
        rcases gr_p_st.mp h1 with h | ⟨x, hx, h3, h4⟩
        · exact h
        · exact K x a hx ha h3 h4
      exact gr_p_st.mpr (Or.inl (K a c ha hc ha1 h2))
    · right
      rcases ih with ih | ih
      · exact absurd ih K
      · have : ∃ a c, a < 8 ∧ c < 8 ∧ gr_p F b k a = true ∧ F a c = true ∧ gr_p F b k c = false := by
          refine Classical.byContradiction fun N => K fun a c ha hc h1 h2 => ?_
          cases h4 : gr_p F b k c with
          | true => rfl
          | false => exact absurd ⟨a, c, ha, hc, h1, h2, h4⟩ N
        obtain ⟨a, c, ha, hc, h1, h2, h4⟩ := this
        have := gr_c_lt (S := gr_p F b k) (T := gr_p F b (k + 1)) (c := c) (gr_p_st.mpr (Or.inr ⟨a, ha, h1, h2⟩)) h4 8 (fun i _ hi => gr_p_st.mpr (Or.inl hi)) hc
        omega
def gr_G (F : Nat → Nat → Bool) (b : Nat) : Nat → Bool := gr_p F b 8
theorem gr_G_cl {F : Nat → Nat → Bool} {b a c : Nat} (ha : a < 8) (hc : c < 8) (h1 : gr_G F b a = true) (h2 : F a c = true) : gr_G F b c = true := by
  rcases gr_p_conv (F := F) (b := b) 8 with K | K
  · exact K a c ha hc h1 h2
  · exact gr_c_full 8 K c hc
theorem gr_G_0 {F : Nat → Nat → Bool} {b c : Nat} (h : F b c = true) : gr_G F b c = true := by
  have : ∀ k, gr_p F b k c = true := by
    intro k
    induction k with
    | zero => exact h
    | succ k ih => exact gr_p_st.mpr (Or.inl ih)
  exact this 8
/-- there is a ring -/
def gr_Z (F : Nat → Nat → Bool) : Nat → Bool := gr_x (fun b => gr_G F b b)
/-- the order so far: T listed, o of them, p their places -/
def gr_O (e : Nat → Nat → Bool) (T : Nat → Bool) (p : Nat → Nat) (o : Nat) : Prop :=
  o = gr_c T 8 ∧ (∀ b, b < 8 → T b = true → gr_L e b = true ∧ p b < o) ∧ (∀ a b, a < 8 → b < 8 → T b = true → gr_F e a b = true → T a = true ∧ p a < p b)
def gr_St (e : Nat → Nat → Bool) (T : Nat → Bool) (j : Nat) : Prop := ∀ b, b < j → gr_L e b = true → T b = false → ∃ a, a < 8 ∧ gr_F e a b = true ∧ T a = false
def gr_J (e : Nat → Nat → Bool) (T : Nat → Bool) (k j : Nat) : Prop := gr_St e T 8 ∨ k + 1 ≤ gr_c T 8 ∨ (k ≤ gr_c T 8 ∧ gr_St e T j)
theorem gr_O_0 (e : Nat → Nat → Bool) (p : Nat → Nat) : gr_O e (fun _ => false) p 0 := ⟨by decide, ⟨fun b _ h => (Bool.false_ne_true h).elim, fun a b _ _ h => (Bool.false_ne_true h).elim⟩⟩
theorem gr_J_0 (e : Nat → Nat → Bool) (T : Nat → Bool) : gr_J e T 0 0 := Or.inr (Or.inr ⟨Nat.zero_le _, fun b h => by omega⟩)
def gr_pu (p : Nat → Nat) (b o : Nat) : Nat → Nat := fun j => if j = b then o else p j
theorem gr_O_add {e : Nat → Nat → Bool} {T : Nat → Bool} {p : Nat → Nat} {o b : Nat} (h : gr_O e T p o) (hb : b < 8) (hl : gr_L e b = true) (ht : T b = false) (hf : ∀ a, a < 8 → gr_F e a b = true → T a = true) : gr_O e (fun i => T i || (i == b)) (gr_pu p b o) (o + 1) := by
  obtain ⟨h1, h2, h3⟩ := h
  have pn : ∀ j, j ≠ b → gr_pu p b o j = p j := fun j hj => if_neg hj
  have pb : gr_pu p b o b = o := if_pos rfl
  refine ⟨?_, ?_, ?_⟩
  · rw [h1]
    refine (gr_c_put (c := b) ht (by simp) 8 (fun i _ hi => ?_) hb).symm
    simp [hi]
  · intro x hx hT
    by_cases z : x = b
    · subst z; exact ⟨hl, by rw [pb]; omega⟩
    · have : T x = true := by simpa [z] using hT
      have := h2 x hx this
      exact ⟨this.1, by rw [pn x z]; omega⟩
  · intro a x ha hx hT hF
    have na : ∀ q, q < 8 → T q = true → q ≠ b := fun q _ hq z => by rw [z, ht] at hq; cases hq
    by_cases z : x = b
    · subst z
      have ta := hf a ha hF
      refine ⟨by simp [ta], ?_⟩
      rw [pb, pn a (na a ha ta)]
      exact (h2 a ha ta).2
    · have tx : T x = true := by simpa [z] using hT
      obtain ⟨ta, hp⟩ := h3 a x ha hx tx hF
      refine ⟨by simp [ta], ?_⟩
      rw [pn x z, pn a (na a ha ta)]
      exact hp
theorem gr_J_add {e : Nat → Nat → Bool} {T : Nat → Bool} {k b : Nat} (h : gr_J e T k b) (hb : b < 8) (hl : gr_L e b = true) (ht : T b = false) (hf : ∀ a, a < 8 → gr_F e a b = true → T a = true) : gr_J e (fun i => T i || (i == b)) k (b + 1) := by
  have hc : gr_c (fun i => T i || (i == b)) 8 = gr_c T 8 + 1 := gr_c_put (c := b) ht (by simp) 8 (fun i _ hi => by simp [hi]) hb
  rcases h with h | h | h
  · obtain ⟨a, ha, h1, h2⟩ := h b hb hl ht
    rw [hf a ha h1] at h2; cases h2
  · exact Or.inr (Or.inl (by omega))
  · exact Or.inr (Or.inl (by omega))
theorem gr_J_no {e : Nat → Nat → Bool} {T : Nat → Bool} {k b : Nat} (h : gr_J e T k b) (hn : gr_L e b = true → T b = false → ∃ a, a < 8 ∧ gr_F e a b = true ∧ T a = false) : gr_J e T k (b + 1) := by
  rcases h with h | h | h
  · exact Or.inl h
  · exact Or.inr (Or.inl h)
  · refine Or.inr (Or.inr ⟨h.1, fun x hx h1 h2 => ?_⟩)
    by_cases z : x = b
    · subst z; exact hn h1 h2
    · exact h.2 x (by omega) h1 h2
theorem gr_J_end {e : Nat → Nat → Bool} {T : Nat → Bool} {k : Nat} (h : gr_J e T k 8) : gr_J e T (k + 1) 0 := by
  rcases h with h | h | h
  · exact Or.inl h
  · exact Or.inr (Or.inr ⟨h, fun b hb => by omega⟩)
  · exact Or.inl h.2
/-- the order is whole exactly when there is no ring -/
theorem gr_O_reg {e : Nat → Nat → Bool} {T : Nat → Bool} {p : Nat → Nat} {o : Nat} (h : gr_O e T p o) (hj : gr_J e T 8 0) : o = gr_c (gr_L e) 8 ↔ gr_Z (gr_F e) 8 = false := by
  obtain ⟨h1, h2, h3⟩ := h
  constructor
  · intro z
    have all := gr_c_all 8 (fun i hi ht => (h2 i hi ht).1) (h1.symm.trans z)
    refine gr_nb fun r => ?_
    obtain ⟨b, hb, r⟩ := (gr_x_i 8).mp r
    have inc : ∀ a c, a < 8 → c < 8 → gr_F e a c = true → p a < p c := fun a c ha hc hF => (h3 a c ha hc (all c hc (gr_F_L ha hc hF)) hF).2
    have := gr_p_least (F := gr_F e) (b := b) (fun c => p b < p c) (fun c hc hF => inc b c hb hc hF) (fun a c ha hc q hF => Nat.lt_trans q (inc a c ha hc hF)) 8 b hb r
    omega
  · intro z
    refine Classical.byContradiction fun ne => ?_
    have stuck : gr_St e T 8 := by
      rcases hj with h | h | h
      · exact h
      · have := gr_c_le T 8; omega
      · exfalso
        have tt := gr_c_full 8 h.1
        have l1 := gr_c_mono 8 fun i hi ht => (h2 i hi ht).1
        have l2 := gr_c_le (gr_L e) 8
        omega
    have out : ∃ b, b < 8 ∧ gr_L e b = true ∧ T b = false := by
      refine Classical.byContradiction fun N => ne ?_
      rw [h1]
      refine gr_c_congr 8 fun i hi => ?_
      cases ht : T i with
      | true => exact (h2 i hi ht).1.symm
      | false => exact (gr_nb fun q => N ⟨i, hi, q, ht⟩).symm
    have nr : ∀ b, b < 8 → gr_G (gr_F e) b b = false := fun b hb => gr_nb fun q => gr_bn z ((gr_x_i 8).mpr ⟨b, hb, q⟩)
    have up : ∀ k, ∃ b, b < 8 ∧ gr_L e b = true ∧ T b = false ∧ k ≤ gr_c (gr_G (gr_F e) b) 8 := by
      intro k
      induction k with
      | zero => obtain ⟨b, q1, q2, q3⟩ := out; exact ⟨b, q1, q2, q3, Nat.zero_le _⟩
      | succ k ih =>
        obtain ⟨b, q1, q2, q3, q4⟩ := ih
        obtain ⟨a, ha, f, ta⟩ := stuck b q1 q2 q3
        refine ⟨a, ha, (gr_F_i.mp f).1, ta, ?_⟩
        have := gr_c_lt (S := gr_G (gr_F e) b) (T := gr_G (gr_F e) a) (c := b) (gr_G_0 f) (nr b q1) 8 (fun i hi hg => gr_p_least (F := gr_F e) (b := b) (fun c => gr_G (gr_F e) a c = true) (fun c hc hF => gr_G_cl q1 hc (gr_G_0 f) hF) (fun x c hx hc q hF => gr_G_cl hx hc q hF) 8 i hi hg) q1
        omega
    obtain ⟨b, _, _, _, q⟩ := up 9
    have := gr_c_le (gr_G (gr_F e) b) 8
    omega
end
section
/-! the tree of dominators: parents, weights, places -/
theorem gr_c_two {S : Nat → Bool} {a b n : Nat} (ha : a < n) (hb : b < n) (ne : a ≠ b) (h1 : S a = true) (h2 : S b = true) : 2 ≤ gr_c S n := by
  have q1 := gr_c_lt (S := fun _ => false) (T := fun i => i == a) (c := a) (by simp) rfl n (fun i _ h => by cases h) ha
  have q2 := gr_c_lt (S := fun i => i == a) (T := S) (c := b) h2 (by simpa using fun z => ne z.symm) n (fun i _ h => by
    have : i = a := by simpa using h
    rw [this]; exact h1) hb
  omega
/-- q is the nearest strict dominator of c -/
def gr_P (e : Nat → Nat → Bool) (c q : Nat) : Prop := q < 8 ∧ q ≠ c ∧ gr_D e c q = true ∧ ∀ h, h < 8 → h ≠ c → gr_D e c h = true → gr_c (gr_D e h) 8 ≤ gr_c (gr_D e q) 8
theorem gr_P_all {e : Nat → Nat → Bool} {c q h : Nat} (hc : c < 8) (hp : gr_P e c q) (hh : h < 8) (ne : h ≠ c) (hd : gr_D e c h = true) : gr_D e q h = true := by
  obtain ⟨q8, qc, qd, qm⟩ := hp
  rcases gr_D_chain hc qd hd with z | z
  · exact z
  · by_cases w : q = h
    · subst w; exact z
    · have := gr_D_size q8 hh z w
      have := qm h hh ne hd
      omega
theorem gr_P_one {e : Nat → Nat → Bool} {b t q : Nat} (hb : b < 8) (ht : t < 8) (hF : gr_F e b t = true) (hM : gr_M e t = false) (hp : gr_P e t q) : q = b := by
  obtain ⟨lb, he, hd⟩ := gr_F_i.mp hF
  have lt := gr_F_L hb ht hF
  have nbt : b ≠ t := fun z => by rw [z, gr_D_r (z ▸ lb)] at hd; cases hd
  have dtb : gr_D e t b = true := by
    refine gr_D_i.mpr ⟨lt, lb, gr_nb fun r => ?_⟩
    have := gr_R_least (e := e) (h := b) (fun x => x ≠ b ∧ gr_L e x = true ∧ gr_D e x t = false) (fun b0 => ⟨fun z => b0 z.symm, gr_L_0, gr_nb fun z => by
        have t0 := gr_D_00 z
        rw [t0, gr_D_0 hb lb] at hd; cases hd⟩) (fun a c ha hc q hac ncb => by
      obtain ⟨q1, q2, q3⟩ := q
      refine ⟨ncb, gr_L_cl ha hc q2 hac, gr_nb fun z => ?_⟩
      by_cases ct : c = t
      · subst ct
        have := gr_c_two (S := fun a => gr_F e a c) ha hb q1 (gr_F_i.mpr ⟨q2, hac, q3⟩) hF
        unfold gr_M at hM
        exact absurd this (by simpa using hM)
      · rw [gr_D_pred hc ha z (fun w => ct w.symm) q2 hac] at q3; cases q3) ht r
    rw [gr_D_r lt] at this; exact absurd this.2.2 (by decide)
  have h1 := gr_P_all ht hp hb nbt dtb
  have h2 := gr_D_pred ht hb hp.2.2.1 hp.2.1 lb he
  exact gr_D_anti hp.1 h2 h1
/-- every live block but the first has a forward edge to it -/
theorem gr_fp {e : Nat → Nat → Bool} {c : Nat} (hc : c < 8) (hl : gr_L e c = true) (c0 : c ≠ 0) : ∃ a, a < 8 ∧ gr_F e a c = true := by
  refine Classical.byContradiction fun N => ?_
  have := gr_L_least (e := e) (fun x => gr_L e x = true ∧ gr_D e x c = false) ⟨gr_L_0, gr_nb fun z => c0 (gr_D_00 z)⟩ (fun a x ha hx q hax => by
    refine ⟨gr_L_cl ha hx q.1 hax, gr_nb fun z => ?_⟩
    by_cases w : x = c
    · subst w
      exact N ⟨a, ha, gr_F_i.mpr ⟨q.1, hax, q.2⟩⟩
    · rw [gr_D_pred hx ha z (fun v => w v.symm) q.1 hax] at q; exact absurd q.2 (by decide)) hc hl
  rw [gr_D_r hl] at this; exact absurd this.2 (by decide)
theorem gr_pl {e : Nat → Nat → Bool} {p : Nat → Nat} (inc : ∀ a c, a < 8 → c < 8 → gr_F e a c = true → p a < p c) {b : Nat} (hb : b < 8) : ∀ n c, p c ≤ n → c < 8 → gr_D e c b = true → p b ≤ p c ∧ (b ≠ c → p b < p c) := by
  intro n
  induction n with
  | zero =>
    intro c hn hc hd
    by_cases z : b = c
    · subst z; exact ⟨Nat.le_refl _, fun w => absurd rfl w⟩
    · have c0 : c ≠ 0 := fun w => by subst w; exact z (gr_D_00 hd)
      obtain ⟨a, ha, hF⟩ := gr_fp hc (gr_D_i.mp hd).1 c0
      have := inc a c ha hc hF
      omega
  | succ n ih =>
    intro c hn hc hd
    by_cases z : b = c
    · subst z; exact ⟨Nat.le_refl _, fun w => absurd rfl w⟩
    · have c0 : c ≠ 0 := fun w => by subst w; exact z (gr_D_00 hd)
      obtain ⟨a, ha, hF⟩ := gr_fp hc (gr_D_i.mp hd).1 c0
      have h1 := inc a c ha hc hF
      have h2 := (ih a (by omega) ha (gr_D_pred hc ha hd z (gr_F_i.mp hF).1 (gr_F_i.mp hF).2.1)).1
      exact ⟨by omega, fun _ => by omega⟩
/-- sums -/
def gr_t (f : Nat → Nat) : Nat → Nat
  | 0 => 0
  | n + 1 => gr_t f n + f n
theorem gr_t_le {f g : Nat → Nat} : ∀ n, (∀ i, i < n → f i ≤ g i) → gr_t f n ≤ gr_t g n := by
  intro n
  induction n with
  | zero => intro _; exact Nat.le_refl _
  | succ n ih =>
    intro h
    have h1 := ih fun i hi => h i (by omega)
    have h2 := h n (by omega)
    show gr_t f n + f n ≤ gr_t g n + g n
    omega
theorem gr_t_congr {f g : Nat → Nat} : ∀ n, (∀ i, i < n → f i = g i) → gr_t f n = gr_t g n := by
  intro n
  induction n with
  | zero => intro _; rfl
  | succ n ih =>
    intro h
    have h1 := ih fun i hi => h i (by omega)
    have h2 := h n (by omega)
    show gr_t f n + f n = gr_t g n + g n
    omega
theorem gr_t_add (f g : Nat → Nat) : ∀ n, gr_t (fun i => f i + g i) n = gr_t f n + gr_t g n := by
  intro n
  induction n with
  | zero => rfl
  | succ n ih =>
    show gr_t (fun i => f i + g i) n + (f n + g n) = gr_t f n + f n + (gr_t g n + g n)
    omega
theorem gr_t_0 : ∀ n, gr_t (fun _ => 0) n = 0 := by
  intro n
  induction n with
  | zero => rfl
  | succ n ih =>
    show gr_t (fun _ => 0) n + 0 = 0
    omega
theorem gr_t_swap (f : Nat → Nat → Nat) (m : Nat) : ∀ n, gr_t (fun c => gr_t (fun x => f c x) m) n = gr_t (fun x => gr_t (fun c => f c x) n) m := by
  intro n
  induction n with
  | zero =>
    show 0 = gr_t (fun _ => 0) m
    rw [gr_t_0]
  | succ n ih =>
    show gr_t (fun c => gr_t (fun x => f c x) m) n + gr_t (fun x => f n x) m = gr_t (fun x => gr_t (fun c => f c x) n + f n x) m
    rw [gr_t_add, ih]
theorem gr_t_if (q : Prop) [Decidable q] (f : Nat → Nat) (m : Nat) : (if q then gr_t f m else 0) = gr_t (fun x => if q then f x else 0) m := by
  by_cases h : q
  · rw [if_pos h]; exact gr_t_congr m fun i _ => (if_pos h).symm
  · rw [if_neg h, gr_t_congr (g := fun _ => 0) m fun i _ => if_neg h, gr_t_0]
theorem gr_t_c (S : Nat → Bool) : ∀ n, gr_c S n = gr_t (fun i => if S i = true then 1 else 0) n := by
  intro n
  induction n with
  | zero => rfl
  | succ n ih =>
    show gr_c S n + _ = gr_t _ n + _
    rw [ih]
theorem gr_t_z {f : Nat → Nat} : ∀ n, (∀ i, i < n → f i = 0) → gr_t f n = 0 := by
  intro n h
  rw [gr_t_congr n h, gr_t_0]
theorem gr_t_1 {f : Nat → Nat} : ∀ n, (∀ i, i < n → f i ≤ 1) → (∀ i j, i < n → j < n → 0 < f i → 0 < f j → i = j) → gr_t f n ≤ 1 := by
  intro n
  induction n with
  | zero => intro _ _; exact Nat.zero_le _
  | succ n ih =>
    intro h1 h2
    show gr_t f n + f n ≤ 1
    by_cases z : f n = 0
    · have := ih (fun i hi => h1 i (by omega)) (fun i j hi hj => h2 i j (by omega) (by omega))
      omega
    · have h3 := h1 n (by omega)
      have : gr_t f n = 0 := gr_t_z n fun i hi => by
        by_cases w : f i = 0
        · exact w
        · have := h2 i n (by omega) (by omega) (by omega) (by omega)
          omega
      omega
theorem gr_t_b (b : Nat) : ∀ n, gr_t (fun x => if x = b then 1 else 0) n = if b < n then 1 else 0 := by
  intro n
  induction n with
  | zero => rfl
  | succ n ih =>
    show gr_t _ n + (if n = b then 1 else 0) = _
    rw [ih]
    by_cases h1 : b < n
    · rw [if_pos h1, if_neg (by omega), if_pos (by omega)]
    · rw [if_neg h1]
      by_cases h2 : n = b
      · rw [if_pos h2, if_pos (by omega)]
      · rw [if_neg h2, if_neg (by omega)]
theorem gr_t_put {f g : Nat → Nat} {y v : Nat} (hy : f y = g y + v) : ∀ n, (∀ i, i < n → i ≠ y → f i = g i) → y < n → gr_t f n = gr_t g n + v := by
  intro n
  induction n with
  | zero => intro _ h; omega
  | succ n ih =>
    intro h hn
    show gr_t f n + f n = gr_t g n + g n + v
    by_cases z : y = n
    · subst z
      rw [gr_t_congr y fun i hi => h i (by omega) (by omega)]; omega
    · rw [ih (fun i hi => h i (by omega)) (by omega), h n (by omega) (by omega)]; omega
theorem gr_t_two {f : Nat → Nat} {a b : Nat} (ne : a ≠ b) {n : Nat} (ha : a < n) (hb : b < n) : f a + f b ≤ gr_t f n := by
  have h1 := gr_t_put (f := f) (g := fun i => if i = a then 0 else f i) (y := a) (v := f a) (by rw [if_pos rfl]; omega) n (fun i _ hi => (if_neg hi).symm) ha
  have h2 := gr_t_put (f := fun i => if i = a then 0 else f i) (g := fun i => if i = a then 0 else if i = b then 0 else f i) (y := b) (v := f b) (by rw [if_neg (fun z => ne z.symm), if_neg (fun z => ne z.symm), if_pos rfl]; omega) n (fun i _ hi => by
    by_cases z : i = a
    · rw [if_pos z, if_pos z]
    · rw [if_neg z, if_neg z, if_neg hi]) hb
  omega
theorem gr_t_ge {f : Nat → Nat} {a : Nat} {n : Nat} (ha : a < n) : f a ≤ gr_t f n := by
  have h1 := gr_t_put (f := f) (g := fun i => if i = a then 0 else f i) (y := a) (v := f a) (by rw [if_pos rfl]; omega) n (fun i _ hi => (if_neg hi).symm) ha
  omega
theorem gr_t_mul (k : Nat) (f : Nat → Nat) : ∀ n, gr_t (fun i => k * f i) n = k * gr_t f n := by
  intro n
  induction n with
  | zero => rfl
  | succ n ih =>
    show gr_t (fun i => k * f i) n + k * f n = k * (gr_t f n + f n)
    rw [ih, Nat.mul_add]
/-- the parents, 8 for none -/
def gr_Q (e : Nat → Nat → Bool) (pr : Nat → Nat) : Prop := ∀ c, c < 8 → (pr c = 8 ∧ ∀ h, h < 8 → h ≠ c → gr_D e c h = false) ∨ gr_P e c (pr c)
theorem gr_Q_P {e : Nat → Nat → Bool} {pr : Nat → Nat} (h : gr_Q e pr) {c : Nat} (hc : c < 8) (h8 : pr c < 8) : gr_P e c (pr c) := by
  rcases h c hc with z | z
  · omega
  · exact z
theorem gr_Q_L {e : Nat → Nat → Bool} {pr : Nat → Nat} (h : gr_Q e pr) {c : Nat} (hc : c < 8) (hl : gr_L e c = true) (c0 : c ≠ 0) : gr_P e c (pr c) := by
  rcases h c hc with z | z
  · have := z.2 0 (by omega) (fun w => c0 w.symm)
    rw [gr_D_0 hc hl] at this; cases this
  · exact z
def gr_w (e : Nat → Nat → Bool) (b : Nat) : Nat := gr_c (fun x => gr_D e x b) 8
theorem gr_w_8 (e : Nat → Nat → Bool) (b : Nat) : gr_w e b ≤ 8 := gr_c_le _ 8
theorem gr_w_1 {e : Nat → Nat → Bool} {b : Nat} (hb : b < 8) (hl : gr_L e b = true) : 1 ≤ gr_w e b := by
  have := gr_c_lt (S := fun _ => false) (T := fun x => gr_D e x b) (c := b) (gr_D_r hl) rfl 8 (fun i _ h => by cases h) hb
  show 1 ≤ gr_c _ 8
  omega
/-- a block's weight is at least one more than its children's -/
theorem gr_w_ch {e : Nat → Nat → Bool} {pr : Nat → Nat} (h : gr_Q e pr) {b : Nat} (hb : b < 8) (hl : gr_L e b = true) : 1 + gr_t (fun c => if pr c = b then gr_w e c else 0) 8 ≤ gr_w e b := by
  have e1 : gr_t (fun c => if pr c = b then gr_w e c else 0) 8 = gr_t (fun x => gr_t (fun c => if pr c = b then (if gr_D e x c = true then 1 else 0) else 0) 8) 8 := by
    rw [← gr_t_swap (fun c x => if pr c = b then (if gr_D e x c = true then 1 else 0) else 0) 8 8]
    refine gr_t_congr 8 fun c _ => ?_
    show (if pr c = b then gr_c (fun x => gr_D e x c) 8 else 0) = _
    rw [gr_t_c, gr_t_if]
  have e2 : gr_w e b = gr_t (fun x => if gr_D e x b = true then 1 else 0) 8 := gr_t_c _ 8
  have e3 : gr_t (fun x => if x = b then 1 else 0) 8 = 1 := by rw [gr_t_b, if_pos hb]
  rw [e1, e2]
  refine Nat.le_trans (Nat.le_of_eq ?_) (gr_t_le (f := fun x => (if x = b then 1 else 0) + gr_t (fun c => if pr c = b then (if gr_D e x c = true then 1 else 0) else 0) 8) 8 fun x hx => ?_)
  · rw [gr_t_add, e3]
  show (if x = b then 1 else 0) + gr_t (fun c => if pr c = b then (if gr_D e x c = true then 1 else 0) else 0) 8 ≤ (if gr_D e x b = true then 1 else 0)
  have pos : ∀ c, c < 8 → 0 < (if pr c = b then (if gr_D e x c = true then 1 else 0) else 0) → pr c = b ∧ gr_D e x c = true := by
    intro c _ hp
    by_cases z : pr c = b
    · rw [if_pos z] at hp
      by_cases w : gr_D e x c = true
      · exact ⟨z, w⟩
      · rw [if_neg w] at hp; omega
    · rw [if_neg z] at hp; omega
  by_cases hd : gr_D e x b = true
  · rw [if_pos hd]
    by_cases xb : x = b
    · rw [if_pos xb, gr_t_z 8 fun c hc => ?_]
      · exact Nat.le_refl _
      · refine Nat.eq_zero_of_not_pos fun hp => ?_
        obtain ⟨q1, q2⟩ := pos c hc hp
        have P := gr_Q_P h hc (by omega)
        rw [q1] at P
        rw [xb] at q2
        exact P.2.1 (gr_D_anti hb P.2.2.1 q2)
    · rw [if_neg xb, Nat.zero_add]
      refine gr_t_1 8 (fun c _ => ?_) (fun c d hc hd' p1 p2 => ?_)
      · split
        · split <;> omega
        · omega
      · obtain ⟨q1, q2⟩ := pos c hc p1
        obtain ⟨r1, r2⟩ := pos d hd' p2
        have P1 := gr_Q_P h hc (by omega)
        have P2 := gr_Q_P h hd' (by omega)
        rw [q1] at P1
        rw [r1] at P2
        refine Classical.byContradiction fun ne => ?_
        rcases gr_D_chain hx q2 r2 with z | z
        · have := gr_P_all hc P1 hd' (fun w => ne w.symm) z
          exact P2.2.1 (gr_D_anti hb P2.2.2.1 this)
        · have := gr_P_all hd' P2 hc ne z
          exact P1.2.1 (gr_D_anti hb P1.2.2.1 this)
  · rw [if_neg hd, gr_t_z 8 fun c hc => ?_]
    · rw [if_neg fun xb => hd (by rw [xb]; exact gr_D_r hl)]
      exact Nat.le_refl _
    · refine Nat.eq_zero_of_not_pos fun hp => ?_
      obtain ⟨q1, q2⟩ := pos c hc hp
      have P := gr_Q_P h hc (by omega)
      rw [q1] at P
      exact hd (gr_D_trans hx q2 P.2.2.1)
end
section
/-! nested code: the open places at each place, what is logged, what is still to be written -/
def wr_S (c : Nat → Int32) : Nat → List Nat
  | 0 => []
  | p + 1 => if 2 < c p then (if c p = 4 then (wr_S c p).tail else wr_S c p) else p :: wr_S c p
theorem wr_S_o {c : Nat → Int32} {p : Nat} (h : ¬ 2 < c p) : wr_S c (p + 1) = p :: wr_S c p := if_neg h
theorem wr_S_e {c : Nat → Int32} {p : Nat} (h : c p = 4) : wr_S c (p + 1) = (wr_S c p).tail := by
  show (if 2 < c p then (if c p = 4 then (wr_S c p).tail else wr_S c p) else p :: wr_S c p) = _
  rw [if_pos (by rw [h]; decide), if_pos h]
theorem wr_S_n {c : Nat → Int32} {p : Nat} (h : 2 < c p) (h4 : ¬ c p = 4) : wr_S c (p + 1) = wr_S c p := by
  show (if 2 < c p then (if c p = 4 then (wr_S c p).tail else wr_S c p) else p :: wr_S c p) = _
  rw [if_pos h, if_neg h4]
theorem wr_S_lt {c : Nat → Int32} : ∀ p o, o ∈ wr_S c p → o < p ∧ ¬ 2 < c o := by
  intro p
  induction p with
  | zero => intro o h; exact absurd h (by show ¬ o ∈ []; simp)
  | succ p ih =>
    intro o h
    by_cases h2 : 2 < c p
    · by_cases h4 : c p = 4
      · rw [wr_S_e h4] at h
        have := ih o (List.mem_of_mem_tail h)
        exact ⟨by omega, this.2⟩
      · rw [wr_S_n h2 h4] at h
        have := ih o h
        exact ⟨by omega, this.2⟩
    · rw [wr_S_o h2] at h
      rcases List.mem_cons.mp h with h | h
      · subst h; exact ⟨by omega, h2⟩
      · have := ih o h
        exact ⟨by omega, this.2⟩
theorem wr_S_ext {c c' : Nat → Int32} : ∀ p, (∀ j, j < p → c' j = c j) → wr_S c' p = wr_S c p := by
  intro p
  induction p with
  | zero => intro _; rfl
  | succ p ih =>
    intro h
    have h1 := ih fun j hj => h j (by omega)
    have h2 := h p (by omega)
    show (if 2 < c' p then (if c' p = 4 then (wr_S c' p).tail else wr_S c' p) else p :: wr_S c' p) = (if 2 < c p then (if c p = 4 then (wr_S c p).tail else wr_S c p) else p :: wr_S c p)
    rw [h1, h2]
theorem wr_S_suf {c : Nat → Int32} : ∀ p pre o s, wr_S c p = pre ++ o :: s → s = wr_S c o := by
  intro p
  induction p with
  | zero => intro pre o s h; cases pre <;> cases h
  | succ p ih =>
    intro pre o s h
    by_cases h2 : 2 < c p
    · by_cases h4 : c p = 4
      · rw [wr_S_e h4] at h
        cases hl : wr_S c p with
        | nil => rw [hl] at h; cases pre <;> cases h
        | cons x r =>
          rw [hl] at h
          have h : r = pre ++ o :: s := h
          exact ih (x :: pre) o s (by rw [hl, h]; rfl)
      · rw [wr_S_n h2 h4] at h
        exact ih pre o s h
    · rw [wr_S_o h2] at h
      cases pre with
      | nil =>
        have h : p :: wr_S c p = o :: s := h
        injection h with h1 h3
        rw [← h1, h3]
      | cons x pre =>
        have h : p :: wr_S c p = x :: (pre ++ o :: s) := h
        injection h with h1 h3
        exact ih pre o s h3
/-- an open thing of a kind with a target -/
def wr_h (c : Nat → Int32) (tg : Nat → Nat) (st : List Nat) (k : Int32) (t : Nat) : Prop := ∃ o, o ∈ st ∧ c o = k ∧ tg o = t
theorem wr_h_ext {c c' : Nat → Int32} {tg tg' : Nat → Nat} {st : List Nat} {k : Int32} {t : Nat} (x : ∀ o, o ∈ st → c' o = c o ∧ tg' o = tg o) (h : wr_h c tg st k t) : wr_h c' tg' st k t := by
  obtain ⟨o, h1, h2, h3⟩ := h
  exact ⟨o, h1, (x o h1).1.trans h2, (x o h1).2.trans h3⟩
theorem wr_h_c {c : Nat → Int32} {tg : Nat → Nat} {st : List Nat} {k : Int32} {t o : Nat} (h : wr_h c tg st k t) : wr_h c tg (o :: st) k t := by
  obtain ⟨o, h1, h2⟩ := h
  exact ⟨o, List.mem_cons_of_mem _ h1, h2⟩
def wr_X0 (e : Nat → Nat → Bool) (pr p : Nat → Nat) (c : Nat → Int32) (tg : Nat → Nat) (st : List Nat) (b : Nat) : Prop :=
  b < 8 ∧ gr_L e b = true ∧ (∀ d, d < 8 → gr_D e b d = true → d ≠ b → gr_H e d = true → wr_h c tg st 0 d) ∧ (∀ m, m < 8 → gr_L e m = true → gr_M e m = true → gr_D e b (pr m) = true → pr m ≠ b → p b < p m → wr_h c tg st 1 m)
def wr_X1 (e : Nat → Nat → Bool) (pr p : Nat → Nat) (c : Nat → Int32) (tg : Nat → Nat) (st : List Nat) (b : Nat) (S : Nat → Bool) : Prop :=
  b < 8 ∧ gr_L e b = true ∧ (∀ d, d < 8 → gr_D e b d = true → gr_H e d = true → wr_h c tg st 0 d) ∧ (∀ m, m < 8 → gr_L e m = true → gr_M e m = true → gr_D e b (pr m) = true → pr m ≠ b → p b < p m → wr_h c tg st 1 m) ∧ (∀ m, m < 8 → gr_L e m = true → gr_M e m = true → pr m = b → S m = false → wr_h c tg st 1 m) ∧ (∀ m, m < 8 → S m = true → gr_L e m = true ∧ gr_M e m = true ∧ pr m = b)
def wr_z : Nat → Bool := fun _ => false
def wr_X2 (e : Nat → Nat → Bool) (pr p : Nat → Nat) (c : Nat → Int32) (tg : Nat → Nat) (st : List Nat) (b t : Nat) : Prop :=
  wr_X1 e pr p c tg st b wr_z ∧ t < 8 ∧ e b t = true
def wr_Inc (e : Nat → Nat → Bool) (p : Nat → Nat) : Prop := ∀ a c, a < 8 → c < 8 → gr_F e a c = true → p a < p c
section
variable {e : Nat → Nat → Bool} {pr p : Nat → Nat} {c c' : Nat → Int32} {tg tg' : Nat → Nat} {st : List Nat} {b : Nat} {S : Nat → Bool}
theorem wr_X0_ext (x : ∀ o, o ∈ st → c' o = c o ∧ tg' o = tg o) (h : wr_X0 e pr p c tg st b) : wr_X0 e pr p c' tg' st b :=
  ⟨h.1, h.2.1, fun d h1 h2 h3 h4 => wr_h_ext x (h.2.2.1 d h1 h2 h3 h4), fun m h1 h2 h3 h4 h5 h6 => wr_h_ext x (h.2.2.2 m h1 h2 h3 h4 h5 h6)⟩
theorem wr_X1_ext (x : ∀ o, o ∈ st → c' o = c o ∧ tg' o = tg o) (h : wr_X1 e pr p c tg st b S) : wr_X1 e pr p c' tg' st b S :=
  ⟨h.1, h.2.1, fun d h1 h2 h3 => wr_h_ext x (h.2.2.1 d h1 h2 h3), fun m h1 h2 h3 h4 h5 h6 => wr_h_ext x (h.2.2.2.1 m h1 h2 h3 h4 h5 h6), fun m h1 h2 h3 h4 h5 => wr_h_ext x (h.2.2.2.2.1 m h1 h2 h3 h4 h5), h.2.2.2.2.2⟩
theorem wr_X1_c {o : Nat} (h : wr_X1 e pr p c tg st b S) : wr_X1 e pr p c tg (o :: st) b S :=
  ⟨h.1, h.2.1, fun d h1 h2 h3 => wr_h_c (h.2.2.1 d h1 h2 h3), fun m h1 h2 h3 h4 h5 h6 => wr_h_c (h.2.2.2.1 m h1 h2 h3 h4 h5 h6), fun m h1 h2 h3 h4 h5 => wr_h_c (h.2.2.2.2.1 m h1 h2 h3 h4 h5), h.2.2.2.2.2⟩
/-- the merges right below b -/
def wr_ms (e : Nat → Nat → Bool) (pr : Nat → Nat) (b : Nat) : Nat → Bool := fun m => gr_L e m && (pr m == b) && gr_M e m
theorem wr_ms_i {m : Nat} : wr_ms e pr b m = true ↔ gr_L e m = true ∧ pr m = b ∧ gr_M e m = true := by
  unfold wr_ms
  simp [and_assoc]
theorem wr_01 (h : wr_X0 e pr p c tg st b) (hh : gr_H e b = true → wr_h c tg st 0 b) : wr_X1 e pr p c tg st b (wr_ms e pr b) := by
  obtain ⟨h1, h2, h3, h4⟩ := h
  refine ⟨h1, h2, fun d q1 q2 q3 => ?_, h4, fun m q1 q2 q3 q4 q5 => ?_, fun m q1 q2 => ?_⟩
  · by_cases z : d = b
    · subst z; exact hh q3
    · exact h3 d q1 q2 z q3
  · rw [wr_ms_i.mpr ⟨q2, q4, q3⟩] at q5; cases q5
  · obtain ⟨r1, r2, r3⟩ := wr_ms_i.mp q2
    exact ⟨r1, r3, r2⟩
theorem wr_X0_c {o : Nat} (h : wr_X0 e pr p c tg st b) : wr_X0 e pr p c tg (o :: st) b :=
  ⟨h.1, h.2.1, fun d h1 h2 h3 h4 => wr_h_c (h.2.2.1 d h1 h2 h3 h4), fun m h1 h2 h3 h4 h5 h6 => wr_h_c (h.2.2.2 m h1 h2 h3 h4 h5 h6)⟩
theorem wr_11 {y o : Nat} (h : wr_X1 e pr p c tg st b S) (ho : c o = 1) (ht : tg o = y) : wr_X1 e pr p c tg (o :: st) b (fun i => S i && !(i == y)) := by
  obtain ⟨h1, h2, h3, h4, h5, h6⟩ := wr_X1_c (o := o) h
  refine ⟨h1, h2, h3, h4, fun m q1 q2 q3 q4 q5 => ?_, fun m q1 q2 => ?_⟩
  · by_cases z : m = y
    · subst z; exact ⟨o, List.mem_cons_self, ho, ht⟩
    · refine h5 m q1 q2 q3 q4 ?_
      simpa [z] using q5
  · exact h6 m q1 (by simp at q2; exact q2.1)
theorem wr_10 {y : Nat} (hq : gr_Q e pr) (hp : wr_Inc e p) (h : wr_X1 e pr p c tg st b S) (hy : y < 8) (hS : S y = true) (last : ∀ m, m < 8 → S m = true → p m ≤ p y) : wr_X0 e pr p c tg st y := by
  obtain ⟨h1, h2, h3, h4, h5, h6⟩ := h
  obtain ⟨r1, r2, r3⟩ := h6 y hy hS
  have P := gr_Q_P hq hy (by omega)
  rw [r3] at P
  have pb := (gr_pl hp h1 (p y) y (Nat.le_refl _) hy P.2.2.1).2 P.2.1
  refine ⟨hy, r1, fun d q1 q2 q3 q4 => h3 d q1 (gr_P_all hy P q1 q3 q2) q4, fun m q1 q2 q3 q4 q5 q6 => ?_⟩
  have m0 : m ≠ 0 := fun z => by
    subst z
    have := gr_pl hp (b := 0) (by omega) (p y) y (Nat.le_refl _) hy (gr_D_0 hy r1)
    omega
  have Pm := gr_Q_L hq q1 q2 m0
  have dm : gr_D e b (pr m) = true := gr_P_all hy P Pm.1 q5 q4
  by_cases z : pr m = b
  · refine h5 m q1 q2 q3 z (gr_nb fun w => ?_)
    have := last m q1 w
    omega
  · exact h4 m q1 q2 q3 dm z (by omega)
theorem wr_20 {t : Nat} (hq : gr_Q e pr) (hp : wr_Inc e p) (h : wr_X2 e pr p c tg st b t) (hd : gr_D e b t = false) : wr_X0 e pr p c tg st t := by
  obtain ⟨⟨h1, h2, h3, h4, h5, h6⟩, ht, he⟩ := h
  have hF : gr_F e b t = true := gr_F_i.mpr ⟨h2, he, hd⟩
  have pb := hp b t h1 ht hF
  refine ⟨ht, gr_F_L h1 ht hF, fun d q1 q2 q3 q4 => h3 d q1 (gr_D_pred ht h1 q2 q3 h2 he) q4, fun m q1 q2 q3 q4 q5 q6 => ?_⟩
  have dm := gr_D_pred ht h1 q4 q5 h2 he
  by_cases z : pr m = b
  · exact h5 m q1 q2 q3 z rfl
  · exact h4 m q1 q2 q3 dm z (by omega)
theorem wr_2b {t : Nat} (h : wr_X2 e pr p c tg st b t) (hd : gr_D e b t = true) : wr_h c tg st 0 t :=
  h.1.2.2.1 t h.2.1 hd ((gr_x_i 8).mpr ⟨b, h.1.1, gr_B_i.mpr ⟨h.1.2.1, h.2.2, hd⟩⟩)
theorem wr_2m {t : Nat} (hq : gr_Q e pr) (hp : wr_Inc e p) (h : wr_X2 e pr p c tg st b t) (hd : gr_D e b t = false) (hM : gr_M e t = true) : wr_h c tg st 1 t := by
  obtain ⟨⟨h1, h2, h3, h4, h5, h6⟩, ht, he⟩ := h
  have hF : gr_F e b t = true := gr_F_i.mpr ⟨h2, he, hd⟩
  have lt := gr_F_L h1 ht hF
  have t0 : t ≠ 0 := fun z => by subst z; rw [gr_D_0 h1 h2] at hd; cases hd
  have P := gr_Q_L hq ht lt t0
  by_cases z : pr t = b
  · exact h5 t ht lt hM z rfl
  · exact h4 t ht lt hM (gr_D_pred ht h1 P.2.2.1 P.2.1 h2 he) z (hp b t h1 ht hF)
end
end
section
/-! the writing: what is still to be written (items), its weight, what holds at each round -/
abbrev wr_It : Type := Nat × Nat × Nat × (Nat → Bool)
section
variable (e : Nat → Nat → Bool) (pr p : Nat → Nat) (A B wk : Nat → Nat)
def wr_V (c : Nat → Int32) (tg : Nat → Nat) : List wr_It → List Nat → Prop
  | [], st => st = []
  | it :: w, st =>
    (it.1 = 4 ∧ ∃ o s, st = o :: s ∧ (c o = 1 → ∃ S w', w = (0, tg o, 0, S) :: w') ∧ wr_V c tg w s) ∨
    (it.1 = 3 ∧ ∃ o s, st = o :: s ∧ c o = 2 ∧ (∃ S w', w = (2, tg o, B (tg o), S) :: w') ∧ wr_V c tg w st) ∨
    (it.1 = 0 ∧ wr_X0 e pr p c tg st it.2.1 ∧ wr_V c tg w st) ∨
    (it.1 = 1 ∧ wr_X1 e pr p c tg st it.2.1 it.2.2.2 ∧ wr_V c tg w st) ∨
    (it.1 = 2 ∧ wr_X2 e pr p c tg st it.2.1 it.2.2.1 ∧ wr_V c tg w st) ∨
    (it.1 = 5 ∧ wr_X1 e pr p c tg st it.2.1 wr_z ∧ wr_V c tg w st)
def wr_Pd : List wr_It → List Nat → List Nat
  | [], _ => []
  | it :: w, st => if it.1 = 4 then wr_Pd w st.tail else if it.1 = 3 then st.head?.toList ++ wr_Pd w st else wr_Pd w st
/-- weights: x = 0 counts what opens, x = 1 what is written -/
def wr_T (x b : Nat) : Nat := if x = 0 then 3 * gr_w e b - 1 else 10 * gr_w e b - 2
def wr_f (x b : Nat) (S : Nat → Bool) (c : Nat) : Nat := if pr c = b then (if gr_M e c = true then (if S c = true then wr_T e x c + 1 + x else 0) else wr_T e x c) else 0
def wr_i (x : Nat) (it : wr_It) : Nat :=
  if it.1 = 0 then wr_T e x it.2.1
  else if it.1 = 1 then 1 + 5 * x + gr_t (wr_f e pr x it.2.1 it.2.2.2) 8
  else if it.1 = 2 then x + (if gr_F e it.2.1 it.2.2.1 = true ∧ gr_M e it.2.2.1 = false then wr_T e x it.2.2.1 else 0)
  else if it.1 = 3 then x
  else if it.1 = 5 then 1 + 4 * x + gr_t (wr_f e pr x it.2.1 wr_z) 8
  else 1
def wr_p (x : Nat) : List wr_It → Nat
  | [] => 0
  | it :: w => wr_i e pr x it + wr_p x w
end
section
variable {e : Nat → Nat → Bool} {pr p : Nat → Nat} {A B wk : Nat → Nat}
theorem wr_V_ext {c c' : Nat → Int32} {tg tg' : Nat → Nat} : ∀ (w : List wr_It) (st : List Nat), (∀ o, o ∈ st → c' o = c o ∧ tg' o = tg o) → wr_V e pr p B c tg w st → wr_V e pr p B c' tg' w st := by
  intro w
  induction w with
  | nil => intro st _ h; exact h
  | cons it w ih =>
    intro st x h
    rcases h with ⟨k, o, s, h1, h2, h3⟩ | ⟨k, o, s, h1, h2, h3, h4⟩ | ⟨k, h1, h2⟩ | ⟨k, h1, h2⟩ | ⟨k, h1, h2⟩ | ⟨k, h1, h2⟩
    · subst h1
      have xo := x o List.mem_cons_self
      refine Or.inl ⟨k, o, s, rfl, fun q => ?_, ih s (fun o' h' => x o' (List.mem_cons_of_mem _ h')) h3⟩
      rw [xo.2]
      exact h2 (xo.1 ▸ q)
    · subst h1
      have xo := x o List.mem_cons_self
      refine Or.inr (Or.inl ⟨k, o, s, rfl, xo.1.trans h2, ?_, ih _ x h4⟩)
      rw [xo.2]
      exact h3
    · exact Or.inr (Or.inr (Or.inl ⟨k, wr_X0_ext x h1, ih _ x h2⟩))
    · exact Or.inr (Or.inr (Or.inr (Or.inl ⟨k, wr_X1_ext x h1, ih _ x h2⟩)))
    · exact Or.inr (Or.inr (Or.inr (Or.inr (Or.inl ⟨k, ⟨wr_X1_ext x h1.1, h1.2⟩, ih _ x h2⟩))))
    · exact Or.inr (Or.inr (Or.inr (Or.inr (Or.inr ⟨k, wr_X1_ext x h1, ih _ x h2⟩))))
theorem wr_V_len {c : Nat → Int32} {tg : Nat → Nat} : ∀ (w : List wr_It) (st : List Nat), wr_V e pr p B c tg w st → st.length ≤ wr_p e pr 0 w := by
  intro w
  induction w with
  | nil => intro st h; rw [show st = [] from h]; exact Nat.zero_le _
  | cons it w ih =>
    intro st h
    show st.length ≤ wr_i e pr 0 it + wr_p e pr 0 w
    rcases h with ⟨k, o, s, h1, h2, h3⟩ | ⟨k, o, s, h1, h2, h3, h4⟩ | ⟨k, h1, h2⟩ | ⟨k, h1, h2⟩ | ⟨k, h1, h2⟩ | ⟨k, h1, h2⟩
    · have := ih s h3
      subst h1
      have e1 : wr_i e pr 0 it = 1 := by simp [wr_i, k]
      rw [e1, List.length_cons]
      omega
    · have := ih _ h4; omega
    · have := ih _ h2; omega
    · have := ih _ h2; omega
    · have := ih _ h2; omega
    · have := ih _ h2; omega
theorem wr_T_0 (b : Nat) : wr_T e 0 b = 3 * gr_w e b - 1 := rfl
theorem wr_T_1 (b : Nat) : wr_T e 1 b = 10 * gr_w e b - 2 := rfl
theorem wr_i0 {x b t : Nat} {S : Nat → Bool} : wr_i e pr x (0, b, t, S) = wr_T e x b := rfl
theorem wr_i1 {x b t : Nat} {S : Nat → Bool} : wr_i e pr x (1, b, t, S) = 1 + 5 * x + gr_t (wr_f e pr x b S) 8 := rfl
theorem wr_i2 {x b t : Nat} {S : Nat → Bool} : wr_i e pr x (2, b, t, S) = x + (if gr_F e b t = true ∧ gr_M e t = false then wr_T e x t else 0) := rfl
theorem wr_i3 {x b t : Nat} {S : Nat → Bool} : wr_i e pr x (3, b, t, S) = x := rfl
theorem wr_i4 {x b t : Nat} {S : Nat → Bool} : wr_i e pr x (4, b, t, S) = 1 := rfl
theorem wr_i5 {x b t : Nat} {S : Nat → Bool} : wr_i e pr x (5, b, t, S) = 1 + 4 * x + gr_t (wr_f e pr x b wr_z) 8 := rfl
theorem wr_chL (hq : gr_Q e pr) {b c : Nat} (hb : b < 8) (hc : c < 8) (h : pr c = b) : gr_L e c = true :=
  (gr_D_i.mp (gr_Q_P hq hc (by omega)).2.2.1).1
/-- a tree pays for its loop's end, its merges and its block -/
theorem wr_pay0 (hq : gr_Q e pr) {b x t : Nat} {S S' : Nat → Bool} (hx : x = 0 ∨ x = 1) (hb : b < 8) (hl : gr_L e b = true) : wr_i e pr x (1, b, t, S) + 1 + x ≤ wr_i e pr x (0, b, t, S') := by
  rw [wr_i1, wr_i0]
  have h1 := gr_w_ch hq hb hl
  have w1 := gr_w_1 hb hl
  rcases hx with hx | hx
  · subst hx
    have h2 : gr_t (wr_f e pr 0 b S) 8 ≤ gr_t (fun c => 3 * (if pr c = b then gr_w e c else 0)) 8 := gr_t_le 8 fun c hc => by
      unfold wr_f
      by_cases z : pr c = b
      · have := gr_w_1 hc (wr_chL hq hb hc z)
        rw [if_pos z, if_pos z, wr_T_0]
        split
        · split <;> omega
        · omega
      · rw [if_neg z]; omega
    rw [gr_t_mul] at h2
    rw [wr_T_0]; omega
  · subst hx
    have h2 : gr_t (wr_f e pr 1 b S) 8 ≤ gr_t (fun c => 10 * (if pr c = b then gr_w e c else 0)) 8 := gr_t_le 8 fun c hc => by
      unfold wr_f
      by_cases z : pr c = b
      · have := gr_w_1 hc (wr_chL hq hb hc z)
        rw [if_pos z, if_pos z, wr_T_1]
        split
        · split <;> omega
        · omega
      · rw [if_neg z]; omega
    rw [gr_t_mul] at h2
    rw [wr_T_1]; omega
theorem wr_pay1 {b x t t' y : Nat} {S S' : Nat → Bool} (hy : y < 8) (hS : S y = true) (hM : gr_M e y = true) (hb : pr y = b) : wr_i e pr x (1, b, t, S) = wr_i e pr x (1, b, t', fun i => S i && !(i == y)) + wr_i e pr x (0, y, 0, S') + 1 + x := by
  rw [wr_i1, wr_i1, wr_i0]
  have := gr_t_put (f := wr_f e pr x b S) (g := wr_f e pr x b (fun i => S i && !(i == y))) (y := y) (v := wr_T e x y + 1 + x) (by
    unfold wr_f
    rw [if_pos hb, if_pos hM, if_pos hS, if_pos hb, if_pos hM, if_neg (by simp)]; omega) 8 (fun i _ hi => by
    unfold wr_f
    simp [hi]) hy
  omega
theorem wr_pay2 (hq : gr_Q e pr) {b x t : Nat} (hb : b < 8) (ht : t < 8) : (if gr_F e b t = true ∧ gr_M e t = false then wr_T e x t else 0) ≤ wr_f e pr x b wr_z t := by
  by_cases z : gr_F e b t = true ∧ gr_M e t = false
  · rw [if_pos z]
    have lb := (gr_F_i.mp z.1).1
    have lt := gr_F_L hb ht z.1
    have t0 : t ≠ 0 := fun w => by
      have := (gr_F_i.mp z.1).2.2
      rw [w, gr_D_0 hb lb] at this; cases this
    have P := gr_Q_L hq ht lt t0
    have := gr_P_one hb ht z.1 z.2 P
    unfold wr_f
    rw [if_pos this, if_neg (gr_bn z.2)]
    exact Nat.le_refl _
  · rw [if_neg z]; exact Nat.zero_le _
theorem wr_i_1 {c : Nat → Int32} {tg : Nat → Nat} : ∀ (w : List wr_It) (st : List Nat), wr_V e pr p B c tg w st → w.length ≤ wr_p e pr 1 w := by
  intro w
  induction w with
  | nil => intro st _; exact Nat.zero_le _
  | cons it w ih =>
    intro st h
    show w.length + 1 ≤ wr_i e pr 1 it + wr_p e pr 1 w
    rcases h with ⟨k, o, s, h1, h2, h3⟩ | ⟨k, o, s, h1, h2, h3, h4⟩ | ⟨k, h1, h2⟩ | ⟨k, h1, h2⟩ | ⟨k, h1, h2⟩ | ⟨k, h1, h2⟩
    · have := ih _ h3
      have e1 : wr_i e pr 1 it = 1 := by simp [wr_i, k]
      omega
    · have := ih _ h4
      have e1 : wr_i e pr 1 it = 1 := by simp [wr_i, k]
      omega
    · have := ih _ h2
      have e1 : wr_i e pr 1 it = wr_T e 1 it.2.1 := by simp [wr_i, k]
      have w1 := gr_w_1 h1.1 h1.2.1
      rw [wr_T_1] at e1
      omega
    · have := ih _ h2
      have e1 : 1 ≤ wr_i e pr 1 it := by simp [wr_i, k]; omega
      omega
    · have := ih _ h2
      have e1 : 1 ≤ wr_i e pr 1 it := by simp [wr_i, k]
      omega
    · have := ih _ h2
      have e1 : 1 ≤ wr_i e pr 1 it := by simp [wr_i, k]; omega
      omega
end
end
section
/-! the log of the writing, and one step of it -/
def wr_key (it : wr_It) : Nat := if it.1 = 2 then it.2.2.1 else it.2.1
def wr_top (w : List wr_It) (k x : Nat) : Prop := ∃ it w', w = it :: w' ∧ it.1 = k ∧ wr_key it = x
def wr_add (G : Nat → Nat → Nat → Prop) (w : List wr_It) (sz : Nat) : Nat → Nat → Nat → Prop := fun p k x => G p k x ∨ (p = sz ∧ wr_top w k x)
def wr_Cl (wk A : Nat → Nat) (c g : Nat → Int32) (tg : Nat → Nat) (sz : Nat) (G : Nat → Nat → Nat → Prop) (p k x : Nat) : Prop :=
  (k = 0 → (p < sz ∧ c p = 0 ∧ G (p + 1) 1 x) ∨ G p 1 x) ∧
  (k = 1 → p < sz ∧ ((c p = 1 ∧ G (p + 1) 1 x) ∨ (c p = 5 ∧ g p = nI x ∧ G (p + 1) 5 x))) ∧
  (k = 2 → G p 0 x ∨ (p < sz ∧ c p = 6 ∧ ∃ i o : Nat, (wr_S c p)[i]? = some o ∧ g p = nI i ∧ tg o = x ∧ (c o = 0 ∨ c o = 1))) ∧
  (k = 5 → x < 8 ∧ ((wk x = 0 ∧ p < sz ∧ c p = 7) ∨ (wk x = 1 ∧ G p 2 (A x)) ∨ (2 ≤ wk x ∧ p < sz ∧ c p = 2 ∧ g p = nI (wk x - 2) ∧ tg p = x ∧ G (p + 1) 2 (A x))))
def wr_J (e : Nat → Nat → Bool) (pr p A B wk : Nat → Nat) (c g : Nat → Int32) (tg : Nat → Nat) (G : Nat → Nat → Nat → Prop) (sz : Nat) (w : List wr_It) : Prop :=
  (∀ q k x, G q k x → wr_Cl wk A c g tg sz G q k x ∨ (q = sz ∧ wr_top w k x)) ∧
  (∀ k x, wr_top w k x → G sz k x) ∧
  (∀ o, o < sz → c o = 0 → G (o + 1) 1 (tg o)) ∧
  (∀ q, q < sz → c q = 4 → ∃ o s, wr_S c q = o :: s ∧ (c o = 1 → G (q + 1) 0 (tg o))) ∧
  (∀ q, q < sz → c q = 3 → ∃ o s, wr_S c q = o :: s ∧ c o = 2 ∧ G (q + 1) 2 (B (tg o))) ∧
  (∀ o, o < sz → c o = 1 → o ∈ wr_S c sz ∨ ∃ q s, q < sz ∧ c q = 4 ∧ wr_S c q = o :: s) ∧
  (∀ o, o < sz → c o = 2 → o ∈ wr_Pd w (wr_S c sz) ∨ ∃ q s, q < sz ∧ c q = 3 ∧ wr_S c q = o :: s) ∧
  wr_V e pr p B c tg w (wr_S c sz) ∧ (∀ q, q ≤ sz → (wr_S c q).length ≤ 23) ∧ wr_p e pr 1 w + sz ≤ 78 ∧ wr_p e pr 0 w ≤ 23
section
variable {e : Nat → Nat → Bool} {pr p A B wk : Nat → Nat} {c g c' g' : Nat → Int32} {tg tg' : Nat → Nat} {G G' : Nat → Nat → Nat → Prop} {sz sz' : Nat} {w w' : List wr_It} {it : wr_It}
theorem wr_Cl_mono (hc : ∀ j, j < sz → c' j = c j) (hg : ∀ j, j < sz → g' j = g j) (ht : ∀ j, j < sz → tg' j = tg j) (hs : sz ≤ sz') (hG : ∀ q k x, G q k x → G' q k x) {q k x : Nat} (h : wr_Cl wk A c g tg sz G q k x) : wr_Cl wk A c' g' tg' sz' G' q k x := by
  obtain ⟨h0, h1, h2, h5⟩ := h
  refine ⟨fun z => ?_, fun z => ?_, fun z => ?_, fun z => ?_⟩
  · rcases h0 z with ⟨a1, a2, a3⟩ | a
    · exact Or.inl ⟨by omega, (hc q a1).trans a2, hG _ _ _ a3⟩
    · exact Or.inr (hG _ _ _ a)
  · obtain ⟨a1, a⟩ := h1 z
    refine ⟨by omega, ?_⟩
    rcases a with ⟨a2, a3⟩ | ⟨a2, a3, a4⟩
    · exact Or.inl ⟨(hc q a1).trans a2, hG _ _ _ a3⟩
    · exact Or.inr ⟨(hc q a1).trans a2, (hg q a1).trans a3, hG _ _ _ a4⟩
  · rcases h2 z with a | ⟨a1, a2, i, o, a3, a4, a5, a6⟩
    · exact Or.inl (hG _ _ _ a)
    · have es : wr_S c' q = wr_S c q := wr_S_ext q fun j hj => hc j (by omega)
      have ho := (wr_S_lt q o (List.mem_of_getElem? a3)).1
      refine Or.inr ⟨by omega, (hc q a1).trans a2, i, o, es ▸ a3, (hg q a1).trans a4, (ht o (by omega)).trans a5, ?_⟩
      rw [hc o (by omega)]; exact a6
  · obtain ⟨x8, a⟩ := h5 z
    refine ⟨x8, ?_⟩
    rcases a with ⟨a1, a2, a3⟩ | ⟨a1, a2⟩ | ⟨a1, a2, a3, a4, a5, a6⟩
    · exact Or.inl ⟨a1, by omega, (hc q a2).trans a3⟩
    · exact Or.inr (Or.inl ⟨a1, hG _ _ _ a2⟩)
    · exact Or.inr (Or.inr ⟨a1, by omega, (hc q a2).trans a3, (hg q a2).trans a4, (ht q a2).trans a5, hG _ _ _ a6⟩)
theorem wr_top_c {k x : Nat} (h : wr_top (it :: w) k x) : k = it.1 ∧ x = wr_key it := by
  obtain ⟨i, r, h1, h2, h3⟩ := h
  injection h1 with h4 h5
  subst h4
  exact ⟨h2.symm, h3.symm⟩
theorem wr_add_t : wr_add G (it :: w) sz sz it.1 (wr_key it) := Or.inr ⟨rfl, it, w, rfl, rfl, rfl⟩
theorem wr_none (h : wr_J e pr p A B wk c g tg G sz (it :: w)) (hC : wr_Cl wk A c g tg sz (wr_add G w' sz) sz it.1 (wr_key it)) (hV : wr_V e pr p B c tg w' (wr_S c sz)) (hP : ∀ o, o ∈ wr_Pd (it :: w) (wr_S c sz) → o ∈ wr_Pd w' (wr_S c sz)) (p1 : wr_p e pr 1 w' ≤ wr_p e pr 1 (it :: w)) (p0 : wr_p e pr 0 w' ≤ wr_p e pr 0 (it :: w)) : wr_J e pr p A B wk c g tg (wr_add G w' sz) sz w' := by
  obtain ⟨j1, j2, j3, j4, j5, j6, j7, j8, j9, j10, j11⟩ := h
  have up : ∀ q k x, G q k x → wr_add G w' sz q k x := fun q k x z => Or.inl z
  refine ⟨fun q k x z => ?_, fun k x z => Or.inr ⟨rfl, z⟩, fun o a1 a2 => up _ _ _ (j3 o a1 a2), fun q a1 a2 => ?_, fun q a1 a2 => ?_, j6, fun o a1 a2 => ?_, hV, j9, by omega, by omega⟩
  · rcases z with z | z
    · rcases j1 q k x z with z | ⟨z1, z2⟩
      · exact Or.inl (wr_Cl_mono (fun _ _ => rfl) (fun _ _ => rfl) (fun _ _ => rfl) (Nat.le_refl _) up z)
      · obtain ⟨k1, k2⟩ := wr_top_c z2
        rw [z1, k1, k2]
        exact Or.inl hC
    · exact Or.inr z
  · obtain ⟨o, s, b1, b2⟩ := j4 q a1 a2
    exact ⟨o, s, b1, fun z => up _ _ _ (b2 z)⟩
  · obtain ⟨o, s, b1, b2, b3⟩ := j5 q a1 a2
    exact ⟨o, s, b1, b2, up _ _ _ b3⟩
  · rcases j7 o a1 a2 with b | b
    · exact Or.inl (hP o b)
    · exact Or.inr b
def wr_pu (tg : Nat → Nat) (k t : Nat) : Nat → Nat := fun j => if j = k then t else tg j
theorem wr_emit {v a : Int32} {t : Nat} (h : wr_J e pr p A B wk c g tg G sz (it :: w))
    (hC : wr_Cl wk A (upd c sz v) (upd g sz a) (wr_pu tg sz t) (sz + 1) (wr_add G w' (sz + 1)) sz it.1 (wr_key it))
    (h3 : v = 0 → wr_add G w' (sz + 1) (sz + 1) 1 t)
    (h4 : v = 4 → ∃ o s, wr_S c sz = o :: s ∧ (c o = 1 → wr_add G w' (sz + 1) (sz + 1) 0 (tg o)))
    (h5 : v = 3 → ∃ o s, wr_S c sz = o :: s ∧ c o = 2 ∧ wr_add G w' (sz + 1) (sz + 1) 2 (B (tg o)))
    (h7 : ∀ o, o ∈ wr_Pd (it :: w) (wr_S c sz) → o ∈ wr_Pd w' (wr_S (upd c sz v) (sz + 1)) ∨ (v = 3 ∧ ∃ s, wr_S c sz = o :: s))
    (h7' : v = 2 → sz ∈ wr_Pd w' (wr_S (upd c sz v) (sz + 1)))
    (h8 : wr_V e pr p B (upd c sz v) (wr_pu tg sz t) w' (wr_S (upd c sz v) (sz + 1)))
    (p1 : wr_p e pr 1 w' + 1 ≤ wr_p e pr 1 (it :: w)) (p0 : wr_p e pr 0 w' ≤ wr_p e pr 0 (it :: w)) :
    wr_J e pr p A B wk (upd c sz v) (upd g sz a) (wr_pu tg sz t) (wr_add G w' (sz + 1)) (sz + 1) w' := by
  obtain ⟨j1, j2, j3, j4, j5, j6, j7, j8, j9, j10, j11⟩ := h
  have up : ∀ q k x, G q k x → wr_add G w' (sz + 1) q k x := fun q k x z => Or.inl z
  have cu : ∀ j, j < sz → upd c sz v j = c j := fun j hj => pk_un (by omega)
  have gu : ∀ j, j < sz → upd g sz a j = g j := fun j hj => pk_un (by omega)
  have tu : ∀ j, j < sz → wr_pu tg sz t j = tg j := fun j hj => if_neg (by omega)
  have cs : upd c sz v sz = v := pk_us
  have ts : wr_pu tg sz t sz = t := if_pos rfl
  have su : ∀ q, q ≤ sz → wr_S (upd c sz v) q = wr_S c q := fun q hq => wr_S_ext q fun j hj => cu j (by omega)
  refine ⟨fun q k x z => ?_, fun k x z => Or.inr ⟨rfl, z⟩, fun o a1 a2 => ?_, fun q a1 a2 => ?_, fun q a1 a2 => ?_, fun o a1 a2 => ?_, fun o a1 a2 => ?_, h8, fun q hq => ?_, by omega, by omega⟩
  · rcases z with z | z
    · rcases j1 q k x z with z | ⟨z1, z2⟩
      · exact Or.inl (wr_Cl_mono cu gu tu (by omega) up z)
      · obtain ⟨k1, k2⟩ := wr_top_c z2
        rw [z1, k1, k2]
        exact Or.inl hC
    · exact Or.inr z
  · by_cases z : o = sz
    · subst z
      rw [ts]
      exact h3 (cs ▸ a2)
    · rw [tu o (by omega)]
      exact up _ _ _ (j3 o (by omega) (by rw [← cu o (by omega)]; exact a2))
  · by_cases z : q = sz
    · subst z
      obtain ⟨o, s, b1, b2⟩ := h4 (cs ▸ a2)
      have ho := (wr_S_lt q o (by rw [b1]; exact List.mem_cons_self)).1
      refine ⟨o, s, (su q (Nat.le_refl _)).trans b1, fun z => ?_⟩
      rw [tu o ho]
      exact b2 (by rw [← cu o ho]; exact z)
    · obtain ⟨o, s, b1, b2⟩ := j4 q (by omega) (by rw [← cu q (by omega)]; exact a2)
      have ho := (wr_S_lt q o (by rw [b1]; exact List.mem_cons_self)).1
      refine ⟨o, s, (su q (by omega)).trans b1, fun z => ?_⟩
      rw [tu o (by omega)]
      exact up _ _ _ (b2 (by rw [← cu o (by omega)]; exact z))
  · by_cases z : q = sz
    · subst z
      obtain ⟨o, s, b1, b2, b3⟩ := h5 (cs ▸ a2)
      have ho := (wr_S_lt q o (by rw [b1]; exact List.mem_cons_self)).1
      refine ⟨o, s, (su q (Nat.le_refl _)).trans b1, (cu o ho).trans b2, ?_⟩
      rw [tu o ho]
      exact b3
    · obtain ⟨o, s, b1, b2, b3⟩ := j5 q (by omega) (by rw [← cu q (by omega)]; exact a2)
      have ho := (wr_S_lt q o (by rw [b1]; exact List.mem_cons_self)).1
      refine ⟨o, s, (su q (by omega)).trans b1, (cu o (by omega)).trans b2, ?_⟩
      rw [tu o (by omega)]
      exact up _ _ _ b3
  · by_cases z : o = sz
    · subst z
      left
      rw [wr_S_o (by rw [a2]; decide)]
      exact List.mem_cons_self
    · rcases j6 o (by omega) (by rw [← cu o (by omega)]; exact a2) with b | ⟨q, s, b1, b2, b3⟩
      · by_cases z2 : 2 < upd c sz v sz
        · by_cases z4 : upd c sz v sz = 4
          · rw [wr_S_e z4, su sz (Nat.le_refl _)]
            cases hl : wr_S c sz with
            | nil => rw [hl] at b; exact absurd b (by simp)
            | cons y r =>
              rw [hl] at b
              rcases List.mem_cons.mp b with b | b
              · right
                exact ⟨sz, r, by omega, z4, by rw [su sz (Nat.le_refl _), hl, b]⟩
              · exact Or.inl b
          · rw [wr_S_n z2 z4, su sz (Nat.le_refl _)]; exact Or.inl b
        · rw [wr_S_o z2, su sz (Nat.le_refl _)]; exact Or.inl (List.mem_cons_of_mem _ b)
      · exact Or.inr ⟨q, s, by omega, (cu q b1).trans b2, (su q (by omega)).trans b3⟩
  · by_cases z : o = sz
    · subst z
      exact Or.inl (h7' (cs ▸ a2))
    · rcases j7 o (by omega) (by rw [← cu o (by omega)]; exact a2) with b | ⟨q, s, b1, b2, b3⟩
      · rcases h7 o b with b | ⟨b1, s, b2⟩
        · exact Or.inl b
        · exact Or.inr ⟨sz, s, by omega, cs.trans b1, (su sz (Nat.le_refl _)).trans b2⟩
      · exact Or.inr ⟨q, s, by omega, (cu q b1).trans b2, (su q (by omega)).trans b3⟩
  · by_cases z : q = sz + 1
    · subst z
      have := wr_V_len w' _ h8
      omega
    · rw [su q (by omega)]; exact j9 q (by omega)
end
/-- the open things as the two arrays hold them -/
def wr_RO (c : Nat → Int32) (tg : Nat → Nat) (oK oT : Nat → Int32) : List Nat → Nat → Prop
  | [], n => n = 0
  | o :: s, n => ∃ m, n = m + 1 ∧ oK m = c o ∧ (c o ≠ 2 → oT m = nI (tg o) ∧ tg o < 8) ∧ wr_RO c tg oK oT s m
theorem wr_RO_ext {c c' : Nat → Int32} {tg tg' : Nat → Nat} {oK oT oK' oT' : Nat → Int32} : ∀ (s : List Nat) (n : Nat), (∀ o, o ∈ s → c' o = c o ∧ tg' o = tg o) → (∀ j, j < n → oK' j = oK j ∧ oT' j = oT j) → wr_RO c tg oK oT s n → wr_RO c' tg' oK' oT' s n := by
  intro s
  induction s with
  | nil => intro n _ _ h; exact h
  | cons o s ih =>
    intro n hs hn h
    obtain ⟨m, h1, h2, h3, h4⟩ := h
    have xo := hs o List.mem_cons_self
    have xm := hn m (by omega)
    refine ⟨m, h1, by rw [xm.1, xo.1]; exact h2, fun z => ?_, ih m (fun o' h' => hs o' (List.mem_cons_of_mem _ h')) (fun j hj => hn j (by omega)) h4⟩
    rw [xm.2, xo.2]
    exact h3 (xo.1 ▸ z)
theorem wr_RO_len {c : Nat → Int32} {tg : Nat → Nat} {oK oT : Nat → Int32} : ∀ (s : List Nat) (n : Nat), wr_RO c tg oK oT s n → s.length = n := by
  intro s
  induction s with
  | nil => intro n h; exact h.symm
  | cons o s ih =>
    intro n h
    obtain ⟨m, h1, h2, h3, h4⟩ := h
    rw [List.length_cons, ih m h4, h1]
end
section
/-! each kind of item: what one round of the writing does -/
def wr_Gr (e : Nat → Nat → Bool) (pr p A B wk : Nat → Nat) : Prop :=
  gr_Q e pr ∧ wr_Inc e p ∧ (∀ b, b < 8 → wk b ≤ 4 ∧ A b < 8 ∧ B b < 8 ∧ (2 ≤ wk b → A b ≠ B b) ∧ (1 ≤ wk b → e b (A b) = true) ∧ (2 ≤ wk b → e b (B b) = true))
def wr_W (e : Nat → Nat → Bool) (pr p A B wk : Nat → Nat) (oK oT : Nat → Int32) (no : Nat) (c g : Nat → Int32) (sz : Nat) (w : List wr_It) : Prop :=
  ∃ (G : Nat → Nat → Nat → Prop) (tg : Nat → Nat), G 0 0 0 ∧ wr_J e pr p A B wk c g tg G sz w ∧ wr_RO c tg oK oT (wr_S c sz) no
section
variable {e : Nat → Nat → Bool} {pr p A B wk : Nat → Nat} {c g oK oT : Nat → Int32} {tg : Nat → Nat} {sz no b t : Nat} {w : List wr_It} {S : Nat → Bool} {st : List Nat}
theorem wr_V0 (h : wr_V e pr p B c tg ((0, b, t, S) :: w) st) : wr_X0 e pr p c tg st b ∧ wr_V e pr p B c tg w st := by
  rcases h with ⟨k, h⟩ | ⟨k, h⟩ | ⟨k, h⟩ | ⟨k, h⟩ | ⟨k, h⟩ | ⟨k, h⟩
  · exact absurd (show (0 : Nat) = 4 from k) (by decide)
  · exact absurd (show (0 : Nat) = 3 from k) (by decide)
  · exact h
  · exact absurd (show (0 : Nat) = 1 from k) (by decide)
  · exact absurd (show (0 : Nat) = 2 from k) (by decide)
  · exact absurd (show (0 : Nat) = 5 from k) (by decide)
theorem wr_V0i (h : wr_X0 e pr p c tg st b ∧ wr_V e pr p B c tg w st) : wr_V e pr p B c tg ((0, b, t, S) :: w) st := Or.inr (Or.inr (Or.inl ⟨rfl, h⟩))
theorem wr_V1 (h : wr_V e pr p B c tg ((1, b, t, S) :: w) st) : wr_X1 e pr p c tg st b S ∧ wr_V e pr p B c tg w st := by
  rcases h with ⟨k, h⟩ | ⟨k, h⟩ | ⟨k, h⟩ | ⟨k, h⟩ | ⟨k, h⟩ | ⟨k, h⟩
  · exact absurd (show (1 : Nat) = 4 from k) (by decide)
  · exact absurd (show (1 : Nat) = 3 from k) (by decide)
  · exact absurd (show (1 : Nat) = 0 from k) (by decide)
  · exact h
  · exact absurd (show (1 : Nat) = 2 from k) (by decide)
  · exact absurd (show (1 : Nat) = 5 from k) (by decide)
theorem wr_V1i (h : wr_X1 e pr p c tg st b S ∧ wr_V e pr p B c tg w st) : wr_V e pr p B c tg ((1, b, t, S) :: w) st := Or.inr (Or.inr (Or.inr (Or.inl ⟨rfl, h⟩)))
theorem wr_V2 (h : wr_V e pr p B c tg ((2, b, t, S) :: w) st) : wr_X2 e pr p c tg st b t ∧ wr_V e pr p B c tg w st := by
  rcases h with ⟨k, h⟩ | ⟨k, h⟩ | ⟨k, h⟩ | ⟨k, h⟩ | ⟨k, h⟩ | ⟨k, h⟩
  · exact absurd (show (2 : Nat) = 4 from k) (by decide)
  · exact absurd (show (2 : Nat) = 3 from k) (by decide)
  · exact absurd (show (2 : Nat) = 0 from k) (by decide)
  · exact absurd (show (2 : Nat) = 1 from k) (by decide)
  · exact h
  · exact absurd (show (2 : Nat) = 5 from k) (by decide)
theorem wr_V2i (h : wr_X2 e pr p c tg st b t ∧ wr_V e pr p B c tg w st) : wr_V e pr p B c tg ((2, b, t, S) :: w) st := Or.inr (Or.inr (Or.inr (Or.inr (Or.inl ⟨rfl, h⟩))))
theorem wr_V3 (h : wr_V e pr p B c tg ((3, b, t, S) :: w) st) : ∃ o s, st = o :: s ∧ c o = 2 ∧ (∃ S w', w = (2, tg o, B (tg o), S) :: w') ∧ wr_V e pr p B c tg w st := by
  rcases h with ⟨k, h⟩ | ⟨k, h⟩ | ⟨k, h⟩ | ⟨k, h⟩ | ⟨k, h⟩ | ⟨k, h⟩
  · exact absurd (show (3 : Nat) = 4 from k) (by decide)
  · exact h
  · exact absurd (show (3 : Nat) = 0 from k) (by decide)
  · exact absurd (show (3 : Nat) = 1 from k) (by decide)
  · exact absurd (show (3 : Nat) = 2 from k) (by decide)
  · exact absurd (show (3 : Nat) = 5 from k) (by decide)
theorem wr_V3i (h : ∃ o s, st = o :: s ∧ c o = 2 ∧ (∃ S w', w = (2, tg o, B (tg o), S) :: w') ∧ wr_V e pr p B c tg w st) : wr_V e pr p B c tg ((3, b, t, S) :: w) st := Or.inr (Or.inl ⟨rfl, h⟩)
theorem wr_V4 (h : wr_V e pr p B c tg ((4, b, t, S) :: w) st) : ∃ o s, st = o :: s ∧ (c o = 1 → ∃ S w', w = (0, tg o, 0, S) :: w') ∧ wr_V e pr p B c tg w s := by
  rcases h with ⟨k, h⟩ | ⟨k, h⟩ | ⟨k, h⟩ | ⟨k, h⟩ | ⟨k, h⟩ | ⟨k, h⟩
  · exact h
  · exact absurd (show (4 : Nat) = 3 from k) (by decide)
  · exact absurd (show (4 : Nat) = 0 from k) (by decide)
  · exact absurd (show (4 : Nat) = 1 from k) (by decide)
  · exact absurd (show (4 : Nat) = 2 from k) (by decide)
  · exact absurd (show (4 : Nat) = 5 from k) (by decide)
theorem wr_V4i (h : ∃ o s, st = o :: s ∧ (c o = 1 → ∃ S w', w = (0, tg o, 0, S) :: w') ∧ wr_V e pr p B c tg w s) : wr_V e pr p B c tg ((4, b, t, S) :: w) st := Or.inl ⟨rfl, h⟩
theorem wr_V5 (h : wr_V e pr p B c tg ((5, b, t, S) :: w) st) : wr_X1 e pr p c tg st b wr_z ∧ wr_V e pr p B c tg w st := by
  rcases h with ⟨k, h⟩ | ⟨k, h⟩ | ⟨k, h⟩ | ⟨k, h⟩ | ⟨k, h⟩ | ⟨k, h⟩
  · exact absurd (show (5 : Nat) = 4 from k) (by decide)
  · exact absurd (show (5 : Nat) = 3 from k) (by decide)
  · exact absurd (show (5 : Nat) = 0 from k) (by decide)
  · exact absurd (show (5 : Nat) = 1 from k) (by decide)
  · exact absurd (show (5 : Nat) = 2 from k) (by decide)
  · exact h
theorem wr_V5i (h : wr_X1 e pr p c tg st b wr_z ∧ wr_V e pr p B c tg w st) : wr_V e pr p B c tg ((5, b, t, S) :: w) st := Or.inr (Or.inr (Or.inr (Or.inr (Or.inr (⟨rfl, h⟩)))))
theorem wr_S_op {v : Int32} (hv : ¬ 2 < v) : wr_S (upd c sz v) (sz + 1) = sz :: wr_S c sz := by
  rw [wr_S_o (by rw [pk_us]; exact hv), wr_S_ext sz fun j hj => pk_un (by omega)]
theorem wr_S_st {v : Int32} (hv : 2 < v) (h4 : ¬ v = 4) : wr_S (upd c sz v) (sz + 1) = wr_S c sz := by
  rw [wr_S_n (by rw [pk_us]; exact hv) (by rw [pk_us]; exact h4), wr_S_ext sz fun j hj => pk_un (by omega)]
theorem wr_S_en : wr_S (upd c sz 4) (sz + 1) = (wr_S c sz).tail := by
  rw [wr_S_e pk_us, wr_S_ext sz fun j hj => pk_un (by omega)]
theorem wr_xt {v : Int32} {x : Nat} : ∀ o, o ∈ wr_S c sz → upd c sz v o = c o ∧ wr_pu tg sz x o = tg o := fun o ho => by
  have := (wr_S_lt sz o ho).1
  exact ⟨pk_un (by omega), if_neg (by omega)⟩
theorem wr_V_up {v : Int32} {x : Nat} (h : wr_V e pr p B c tg w (wr_S c sz)) : wr_V e pr p B (upd c sz v) (wr_pu tg sz x) w (wr_S c sz) := wr_V_ext w _ wr_xt h
theorem wr_RO_op {v tv : Int32} {x : Nat} (hv : ¬ 2 < v) (h : wr_RO c tg oK oT (wr_S c sz) no) (ht : v ≠ 2 → tv = nI x ∧ x < 8) : wr_RO (upd c sz v) (wr_pu tg sz x) (upd oK no v) (upd oT no tv) (wr_S (upd c sz v) (sz + 1)) (no + 1) := by
  rw [wr_S_op hv]
  refine ⟨no, rfl, pk_us.trans pk_us.symm, fun z => ?_, wr_RO_ext _ _ wr_xt (fun j hj => ⟨pk_un (by omega), pk_un (by omega)⟩) h⟩
  rw [pk_us] at z
  rw [pk_us, show wr_pu tg sz x sz = x from if_pos rfl]
  exact ht z
theorem wr_RO_st {v : Int32} {x : Nat} (hv : 2 < v) (h4 : ¬ v = 4) (h : wr_RO c tg oK oT (wr_S c sz) no) : wr_RO (upd c sz v) (wr_pu tg sz x) oK oT (wr_S (upd c sz v) (sz + 1)) no := by
  rw [wr_S_st hv h4]
  exact wr_RO_ext _ _ wr_xt (fun j hj => ⟨rfl, rfl⟩) h
theorem wr_cl0 {G : Nat → Nat → Nat → Prop} {q k x : Nat} (hk : k = 0) (h : (q < sz ∧ c q = 0 ∧ G (q + 1) 1 x) ∨ G q 1 x) : wr_Cl wk A c g tg sz G q k x :=
  ⟨fun _ => h, fun z => by omega, fun z => by omega, fun z => by omega⟩
theorem wr_cl1 {G : Nat → Nat → Nat → Prop} {q k x : Nat} (hk : k = 1) (h : q < sz ∧ ((c q = 1 ∧ G (q + 1) 1 x) ∨ (c q = 5 ∧ g q = nI x ∧ G (q + 1) 5 x))) : wr_Cl wk A c g tg sz G q k x :=
  ⟨fun z => by omega, fun _ => h, fun z => by omega, fun z => by omega⟩
theorem wr_cl2 {G : Nat → Nat → Nat → Prop} {q k x : Nat} (hk : k = 2) (h : G q 0 x ∨ (q < sz ∧ c q = 6 ∧ ∃ i o : Nat, (wr_S c q)[i]? = some o ∧ g q = nI i ∧ tg o = x ∧ (c o = 0 ∨ c o = 1))) : wr_Cl wk A c g tg sz G q k x :=
  ⟨fun z => by omega, fun z => by omega, fun _ => h, fun z => by omega⟩
theorem wr_cl5 {G : Nat → Nat → Nat → Prop} {q k x : Nat} (hk : k = 5) (h : x < 8 ∧ ((wk x = 0 ∧ q < sz ∧ c q = 7) ∨ (wk x = 1 ∧ G q 2 (A x)) ∨ (2 ≤ wk x ∧ q < sz ∧ c q = 2 ∧ g q = nI (wk x - 2) ∧ tg q = x ∧ G (q + 1) 2 (A x)))) : wr_Cl wk A c g tg sz G q k x :=
  ⟨fun z => by omega, fun z => by omega, fun z => by omega, fun _ => h⟩
theorem wr_cl34 {G : Nat → Nat → Nat → Prop} {q k x : Nat} (hk : k = 3 ∨ k = 4) : wr_Cl wk A c g tg sz G q k x :=
  ⟨fun z => by omega, fun z => by omega, fun z => by omega, fun z => by omega⟩
/-- a tree without a loop -/
theorem wr_tree0 (hg : wr_Gr e pr p A B wk) (hh : gr_H e b = false) (h : wr_W e pr p A B wk oK oT no c g sz ((0, b, t, S) :: w)) : wr_W e pr p A B wk oK oT no c g sz ((1, b, 0, wr_ms e pr b) :: w) := by
  obtain ⟨G, tg, g0, j, r⟩ := h
  obtain ⟨x0, v⟩ := wr_V0 j.2.2.2.2.2.2.2.1
  have y1 := wr_pay0 hg.1 (x := 1) (t := t) (S := wr_ms e pr b) (S' := S) (Or.inr rfl) x0.1 x0.2.1
  have y0 := wr_pay0 hg.1 (x := 0) (t := t) (S := wr_ms e pr b) (S' := S) (Or.inl rfl) x0.1 x0.2.1
  refine ⟨_, tg, Or.inl g0, wr_none j (wr_cl0 rfl (Or.inr (wr_add_t (it := (1, b, 0, wr_ms e pr b))))) (wr_V1i ⟨wr_01 x0 fun z => absurd z (gr_bn hh), v⟩) (fun o ho => ho) ?_ ?_, r⟩
  · show wr_i e pr 1 (1, b, 0, wr_ms e pr b) + wr_p e pr 1 w ≤ wr_i e pr 1 (0, b, t, S) + wr_p e pr 1 w
    have : wr_i e pr 1 (1, b, 0, wr_ms e pr b) = wr_i e pr 1 (1, b, t, wr_ms e pr b) := rfl
    omega
  · show wr_i e pr 0 (1, b, 0, wr_ms e pr b) + wr_p e pr 0 w ≤ wr_i e pr 0 (0, b, t, S) + wr_p e pr 0 w
    have : wr_i e pr 0 (1, b, 0, wr_ms e pr b) = wr_i e pr 0 (1, b, t, wr_ms e pr b) := rfl
    omega
/-- a tree in a loop -/
theorem wr_tree1 (hg : wr_Gr e pr p A B wk) (hh : gr_H e b = true) (h : wr_W e pr p A B wk oK oT no c g sz ((0, b, t, S) :: w)) : wr_W e pr p A B wk (upd oK no 0) (upd oT no (nI b)) (no + 1) (upd c sz 0) (upd g sz 0) (sz + 1) ((1, b, 0, wr_ms e pr b) :: (4, 0, 0, wr_z) :: w) := by
  obtain ⟨G, tg, g0, j, r⟩ := h
  obtain ⟨x0, v⟩ := wr_V0 j.2.2.2.2.2.2.2.1
  have y1 := wr_pay0 hg.1 (x := 1) (t := t) (S := wr_ms e pr b) (S' := S) (Or.inr rfl) x0.1 x0.2.1
  have y0 := wr_pay0 hg.1 (x := 0) (t := t) (S := wr_ms e pr b) (S' := S) (Or.inl rfl) x0.1 x0.2.1
  have tt := wr_add_t (G := G) (it := (1, b, 0, wr_ms e pr b)) (w := (4, 0, 0, wr_z) :: w) (sz := sz + 1)
  refine ⟨_, wr_pu tg sz b, Or.inl g0, wr_emit (t := b) j (wr_cl0 rfl (Or.inl ⟨by omega, pk_us, tt⟩)) (fun _ => tt) (fun z => absurd z (by decide)) (fun z => absurd z (by decide)) (fun o ho => Or.inl ?_) (fun z => absurd z (by decide)) ?_ ?_ ?_, wr_RO_op (by decide) r fun _ => ⟨rfl, x0.1⟩⟩
  · rw [wr_S_op (by decide)]; exact ho
  · rw [wr_S_op (by decide)]
    refine wr_V1i ⟨wr_01 (wr_X0_c (wr_X0_ext wr_xt x0)) fun _ => ⟨sz, List.mem_cons_self, pk_us, if_pos rfl⟩, wr_V4i ⟨sz, _, rfl, fun z => ?_, wr_V_up v⟩⟩
    rw [pk_us] at z
    exact absurd z (by decide)
  · show wr_i e pr 1 (1, b, 0, wr_ms e pr b) + (1 + wr_p e pr 1 w) + 1 ≤ wr_i e pr 1 (0, b, t, S) + wr_p e pr 1 w
    have : wr_i e pr 1 (1, b, 0, wr_ms e pr b) = wr_i e pr 1 (1, b, t, wr_ms e pr b) := rfl
    omega
  · show wr_i e pr 0 (1, b, 0, wr_ms e pr b) + (1 + wr_p e pr 0 w) ≤ wr_i e pr 0 (0, b, t, S) + wr_p e pr 0 w
    have : wr_i e pr 0 (1, b, 0, wr_ms e pr b) = wr_i e pr 0 (1, b, t, wr_ms e pr b) := rfl
    omega
/-- a block around, for the last merge y -/
theorem wr_with1 {y : Nat} (hg : wr_Gr e pr p A B wk) (hy : y < 8) (hS : S y = true) (last : ∀ m, m < 8 → S m = true → p m ≤ p y) (h : wr_W e pr p A B wk oK oT no c g sz ((1, b, t, S) :: w)) : wr_W e pr p A B wk (upd oK no 1) (upd oT no (nI y)) (no + 1) (upd c sz 1) (upd g sz 0) (sz + 1) ((1, b, 0, fun i => S i && !(i == y)) :: (4, 0, 0, wr_z) :: (0, y, 0, wr_z) :: w) := by
  obtain ⟨G, tg, g0, j, r⟩ := h
  obtain ⟨x1, v⟩ := wr_V1 j.2.2.2.2.2.2.2.1
  obtain ⟨m1, m2, m3⟩ := x1.2.2.2.2.2 y hy hS
  have y1 := wr_pay1 (e := e) (pr := pr) (x := 1) (t := t) (t' := 0) (S := S) (S' := wr_z) hy hS m2 m3
  have y0 := wr_pay1 (e := e) (pr := pr) (x := 0) (t := t) (t' := 0) (S := S) (S' := wr_z) hy hS m2 m3
  have tt := wr_add_t (G := G) (it := (1, b, 0, fun i => S i && !(i == y))) (w := (4, 0, 0, wr_z) :: (0, y, 0, wr_z) :: w) (sz := sz + 1)
  refine ⟨_, wr_pu tg sz y, Or.inl g0, wr_emit (t := y) j (wr_cl1 rfl ⟨by omega, Or.inl ⟨pk_us, tt⟩⟩) (fun z => absurd z (by decide)) (fun z => absurd z (by decide)) (fun z => absurd z (by decide)) (fun o ho => Or.inl ?_) (fun z => absurd z (by decide)) ?_ ?_ ?_, wr_RO_op (by decide) r fun _ => ⟨rfl, hy⟩⟩
  · rw [wr_S_op (by decide)]; exact ho
  · rw [wr_S_op (by decide)]
    have ty : wr_pu tg sz y sz = y := if_pos rfl
    refine wr_V1i ⟨wr_11 (wr_X1_ext wr_xt x1) pk_us ty, wr_V4i ⟨sz, _, rfl, fun _ => ⟨wr_z, w, ?_⟩, wr_V0i ⟨wr_X0_ext wr_xt (wr_10 hg.1 hg.2.1 x1 hy hS last), wr_V_up v⟩⟩⟩
    rw [ty]
  · show wr_i e pr 1 (1, b, 0, fun i => S i && !(i == y)) + (1 + (wr_i e pr 1 (0, y, 0, wr_z) + wr_p e pr 1 w)) + 1 ≤ wr_i e pr 1 (1, b, t, S) + wr_p e pr 1 w
    omega
  · show wr_i e pr 0 (1, b, 0, fun i => S i && !(i == y)) + (1 + (wr_i e pr 0 (0, y, 0, wr_z) + wr_p e pr 0 w)) ≤ wr_i e pr 0 (1, b, t, S) + wr_p e pr 0 w
    omega
/-- no merge left: the action -/
theorem wr_with0 (hS : ∀ m, m < 8 → S m = false) (h : wr_W e pr p A B wk oK oT no c g sz ((1, b, t, S) :: w)) : wr_W e pr p A B wk oK oT no (upd c sz 5) (upd g sz (nI b)) (sz + 1) ((5, b, 0, wr_z) :: w) := by
  obtain ⟨G, tg, g0, j, r⟩ := h
  obtain ⟨x1, v⟩ := wr_V1 j.2.2.2.2.2.2.2.1
  have tt := wr_add_t (G := G) (it := (5, b, 0, wr_z)) (w := w) (sz := sz + 1)
  have es : ∀ x, gr_t (wr_f e pr x b S) 8 = gr_t (wr_f e pr x b wr_z) 8 := fun x => gr_t_congr 8 fun i hi => by
    unfold wr_f
    rw [hS i hi]; rfl
  refine ⟨_, wr_pu tg sz 0, Or.inl g0, wr_emit (t := 0) j (wr_cl1 rfl ⟨by omega, Or.inr ⟨pk_us, pk_us, tt⟩⟩) (fun z => absurd z (by decide)) (fun z => absurd z (by decide)) (fun z => absurd z (by decide)) (fun o ho => Or.inl ?_) (fun z => absurd z (by decide)) ?_ ?_ ?_, wr_RO_st (by decide) (by decide) r⟩
  · rw [wr_S_st (by decide) (by decide)]; exact ho
  · rw [wr_S_st (by decide) (by decide)]
    obtain ⟨q1, q2, q3, q4, q5, q6⟩ := wr_X1_ext (wr_xt (v := 5) (x := 0)) x1
    exact wr_V5i ⟨⟨q1, q2, q3, q4, fun m a1 a2 a3 a4 _ => q5 m a1 a2 a3 a4 (hS m a1), fun m _ z => (Bool.false_ne_true z).elim⟩, wr_V_up v⟩
  · show wr_i e pr 1 (5, b, 0, wr_z) + wr_p e pr 1 w + 1 ≤ wr_i e pr 1 (1, b, t, S) + wr_p e pr 1 w
    rw [wr_i5, wr_i1, es]; omega
  · show wr_i e pr 0 (5, b, 0, wr_z) + wr_p e pr 0 w ≤ wr_i e pr 0 (1, b, t, S) + wr_p e pr 0 w
    rw [wr_i5, wr_i1, es]; omega
/-- behind the action: it stops -/
theorem wr_halt (hk : wk b = 0) (h : wr_W e pr p A B wk oK oT no c g sz ((5, b, t, S) :: w)) : wr_W e pr p A B wk oK oT no (upd c sz 7) (upd g sz 0) (sz + 1) w := by
  obtain ⟨G, tg, g0, j, r⟩ := h
  obtain ⟨x1, v⟩ := wr_V5 j.2.2.2.2.2.2.2.1
  refine ⟨_, wr_pu tg sz 0, Or.inl g0, wr_emit (t := 0) j (wr_cl5 rfl ⟨x1.1, Or.inl ⟨hk, by omega, pk_us⟩⟩) (fun z => absurd z (by decide)) (fun z => absurd z (by decide)) (fun z => absurd z (by decide)) (fun o ho => Or.inl ?_) (fun z => absurd z (by decide)) ?_ ?_ ?_, wr_RO_st (by decide) (by decide) r⟩
  · rw [wr_S_st (by decide) (by decide)]; exact ho
  · rw [wr_S_st (by decide) (by decide)]
    exact wr_V_up v
  · show wr_p e pr 1 w + 1 ≤ wr_i e pr 1 (5, b, t, S) + wr_p e pr 1 w
    rw [wr_i5]; omega
  · show wr_p e pr 0 w ≤ wr_i e pr 0 (5, b, t, S) + wr_p e pr 0 w
    omega
/-- behind the action: one way on -/
theorem wr_go (hg : wr_Gr e pr p A B wk) (hk : wk b = 1) (h : wr_W e pr p A B wk oK oT no c g sz ((5, b, t, S) :: w)) : wr_W e pr p A B wk oK oT no c g sz ((2, b, A b, wr_z) :: w) := by
  obtain ⟨G, tg, g0, j, r⟩ := h
  obtain ⟨x1, v⟩ := wr_V5 j.2.2.2.2.2.2.2.1
  obtain ⟨k1, k2, k3, k4, k5, k6⟩ := hg.2.2 b x1.1
  have f1 := wr_pay2 hg.1 (x := 1) x1.1 k2
  have f0 := wr_pay2 hg.1 (x := 0) x1.1 k2
  have t1 := gr_t_ge (f := wr_f e pr 1 b wr_z) k2
  have t0 := gr_t_ge (f := wr_f e pr 0 b wr_z) k2
  refine ⟨_, tg, Or.inl g0, wr_none j (wr_cl5 rfl ⟨x1.1, Or.inr (Or.inl ⟨hk, wr_add_t (it := (2, b, A b, wr_z))⟩)⟩) (wr_V2i ⟨⟨x1, k2, k5 (by omega)⟩, v⟩) (fun o ho => ho) ?_ ?_, r⟩
  · show wr_i e pr 1 (2, b, A b, wr_z) + wr_p e pr 1 w ≤ wr_i e pr 1 (5, b, t, S) + wr_p e pr 1 w
    rw [wr_i2, wr_i5]; omega
  · show wr_i e pr 0 (2, b, A b, wr_z) + wr_p e pr 0 w ≤ wr_i e pr 0 (5, b, t, S) + wr_p e pr 0 w
    rw [wr_i2, wr_i5]; omega
/-- behind the action: two ways on -/
theorem wr_if {tv : Int32} (hg : wr_Gr e pr p A B wk) (hk : 2 ≤ wk b) (h : wr_W e pr p A B wk oK oT no c g sz ((5, b, t, S) :: w)) : wr_W e pr p A B wk (upd oK no 2) (upd oT no tv) (no + 1) (upd c sz 2) (upd g sz (nI (wk b - 2))) (sz + 1) ((2, b, A b, wr_z) :: (3, 0, 0, wr_z) :: (2, b, B b, wr_z) :: (4, 0, 0, wr_z) :: w) := by
  obtain ⟨G, tg, g0, j, r⟩ := h
  obtain ⟨x1, v⟩ := wr_V5 j.2.2.2.2.2.2.2.1
  obtain ⟨k1, k2, k3, k4, k5, k6⟩ := hg.2.2 b x1.1
  have f1 := wr_pay2 hg.1 (x := 1) x1.1 k2
  have f0 := wr_pay2 hg.1 (x := 0) x1.1 k2
  have f1' := wr_pay2 hg.1 (x := 1) x1.1 k3
  have f0' := wr_pay2 hg.1 (x := 0) x1.1 k3
  have t1 := gr_t_two (f := wr_f e pr 1 b wr_z) (k4 hk) k2 k3
  have t0 := gr_t_two (f := wr_f e pr 0 b wr_z) (k4 hk) k2 k3
  have tt := wr_add_t (G := G) (it := (2, b, A b, wr_z)) (w := (3, 0, 0, wr_z) :: (2, b, B b, wr_z) :: (4, 0, 0, wr_z) :: w) (sz := sz + 1)
  have tb : wr_pu tg sz b sz = b := if_pos rfl
  refine ⟨_, wr_pu tg sz b, Or.inl g0, wr_emit (t := b) j (wr_cl5 rfl ⟨x1.1, Or.inr (Or.inr ⟨hk, by omega, pk_us, pk_us, tb, tt⟩)⟩) (fun z => absurd z (by decide)) (fun z => absurd z (by decide)) (fun z => absurd z (by decide)) (fun o ho => Or.inl ?_) (fun _ => ?_) ?_ ?_ ?_, wr_RO_op (by decide) r fun z => absurd rfl z⟩
  · rw [wr_S_op (by decide)]
    exact List.mem_cons_of_mem _ ho
  · rw [wr_S_op (by decide)]
    exact List.mem_cons_self
  · rw [wr_S_op (by decide)]
    have x2 := wr_X1_c (o := sz) (wr_X1_ext (wr_xt (v := 2) (x := b)) x1)
    refine wr_V2i ⟨⟨x2, k2, k5 (by omega)⟩, wr_V3i ⟨sz, _, rfl, pk_us, ⟨wr_z, (4, 0, 0, wr_z) :: w, by rw [tb]⟩, wr_V2i ⟨⟨x2, k3, k6 hk⟩, wr_V4i ⟨sz, _, rfl, fun z => ?_, wr_V_up v⟩⟩⟩⟩
    rw [pk_us] at z
    exact absurd z (by decide)
  · show wr_i e pr 1 (2, b, A b, wr_z) + (1 + (wr_i e pr 1 (2, b, B b, wr_z) + (1 + wr_p e pr 1 w))) + 1 ≤ wr_i e pr 1 (5, b, t, S) + wr_p e pr 1 w
    rw [wr_i2, wr_i2, wr_i5]; omega
  · show wr_i e pr 0 (2, b, A b, wr_z) + (0 + (wr_i e pr 0 (2, b, B b, wr_z) + (1 + wr_p e pr 0 w))) ≤ wr_i e pr 0 (5, b, t, S) + wr_p e pr 0 w
    rw [wr_i2, wr_i2, wr_i5]; omega
/-- a branch to what stands right here -/
theorem wr_br0 (hg : wr_Gr e pr p A B wk) (hd : gr_D e b t = false) (hM : gr_M e t = false) (h : wr_W e pr p A B wk oK oT no c g sz ((2, b, t, S) :: w)) : wr_W e pr p A B wk oK oT no c g sz ((0, t, 0, wr_z) :: w) := by
  obtain ⟨G, tg, g0, j, r⟩ := h
  obtain ⟨x2, v⟩ := wr_V2 j.2.2.2.2.2.2.2.1
  have hF : gr_F e b t = true := gr_F_i.mpr ⟨x2.1.2.1, x2.2.2, hd⟩
  refine ⟨_, tg, Or.inl g0, wr_none j (wr_cl2 rfl (Or.inl (wr_add_t (it := (0, t, 0, wr_z))))) (wr_V0i ⟨wr_20 hg.1 hg.2.1 x2 hd, v⟩) (fun o ho => ho) ?_ ?_, r⟩
  · show wr_T e 1 t + wr_p e pr 1 w ≤ wr_i e pr 1 (2, b, t, S) + wr_p e pr 1 w
    rw [wr_i2, if_pos ⟨hF, hM⟩]; omega
  · show wr_T e 0 t + wr_p e pr 0 w ≤ wr_i e pr 0 (2, b, t, S) + wr_p e pr 0 w
    rw [wr_i2, if_pos ⟨hF, hM⟩]; omega
/-- a branch away -/
theorem wr_br1 {i o : Nat} {G : Nat → Nat → Nat → Prop} (g0 : G 0 0 0) (j : wr_J e pr p A B wk c g tg G sz ((2, b, t, S) :: w)) (r : wr_RO c tg oK oT (wr_S c sz) no) (o1 : (wr_S c sz)[i]? = some o) (o2 : tg o = t) (o3 : c o = 0 ∨ c o = 1) : wr_W e pr p A B wk oK oT no (upd c sz 6) (upd g sz (nI i)) (sz + 1) w := by
  obtain ⟨x2, v⟩ := wr_V2 j.2.2.2.2.2.2.2.1
  have ox := wr_xt (c := c) (tg := tg) (sz := sz) (v := 6) (x := 0) o (List.mem_of_getElem? o1)
  refine ⟨_, wr_pu tg sz 0, Or.inl g0, wr_emit (t := 0) j (wr_cl2 rfl (Or.inr ⟨by omega, pk_us, i, o, ?_, pk_us, ox.2.trans o2, by rw [ox.1]; exact o3⟩)) (fun z => absurd z (by decide)) (fun z => absurd z (by decide)) (fun z => absurd z (by decide)) (fun o ho => Or.inl ?_) (fun z => absurd z (by decide)) ?_ ?_ ?_, wr_RO_st (by decide) (by decide) r⟩
  · rw [wr_S_ext sz fun j hj => pk_un (by omega)]; exact o1
  · rw [wr_S_st (by decide) (by decide)]; exact ho
  · rw [wr_S_st (by decide) (by decide)]
    exact wr_V_up v
  · show wr_p e pr 1 w + 1 ≤ wr_i e pr 1 (2, b, t, S) + wr_p e pr 1 w
    rw [wr_i2]; omega
  · show wr_p e pr 0 w ≤ wr_i e pr 0 (2, b, t, S) + wr_p e pr 0 w
    omega
/-- the other choice -/
theorem wr_else (h : wr_W e pr p A B wk oK oT no c g sz ((3, b, t, S) :: w)) : wr_W e pr p A B wk oK oT no (upd c sz 3) (upd g sz 0) (sz + 1) w := by
  obtain ⟨G, tg, g0, j, r⟩ := h
  obtain ⟨o, s, s1, s2, ⟨S', w', s3⟩, v⟩ := wr_V3 j.2.2.2.2.2.2.2.1
  refine ⟨_, wr_pu tg sz 0, Or.inl g0, wr_emit (t := 0) j (wr_cl34 (Or.inl rfl)) (fun z => absurd z (by decide)) (fun z => absurd z (by decide)) (fun _ => ⟨o, s, s1, s2, ?_⟩) (fun q hq => ?_) (fun z => absurd z (by decide)) ?_ ?_ ?_, wr_RO_st (by decide) (by decide) r⟩
  · rw [s3]
    exact wr_add_t (it := (2, tg o, B (tg o), S'))
  · rw [wr_S_st (by decide) (by decide)]
    have hq : q ∈ (wr_S c sz).head?.toList ++ wr_Pd w (wr_S c sz) := hq
    rcases List.mem_append.mp hq with z | z
    · rw [s1] at z
      have : q = o := by simpa using z
      exact Or.inr ⟨rfl, s, by rw [this]; exact s1⟩
    · exact Or.inl z
  · rw [wr_S_st (by decide) (by decide)]
    exact wr_V_up v
  · show wr_p e pr 1 w + 1 ≤ 1 + wr_p e pr 1 w
    omega
  · show wr_p e pr 0 w ≤ 0 + wr_p e pr 0 w
    omega
/-- an end -/
theorem wr_end (h : wr_W e pr p A B wk oK oT no c g sz ((4, b, t, S) :: w)) : ∃ m, no = m + 1 ∧ wr_W e pr p A B wk oK oT m (upd c sz 4) (upd g sz 0) (sz + 1) w := by
  obtain ⟨G, tg, g0, j, r⟩ := h
  obtain ⟨o, s, s1, s2, v⟩ := wr_V4 j.2.2.2.2.2.2.2.1
  have r' := r
  rw [s1] at r'
  obtain ⟨m, m1, m2, m3, m4⟩ := r'
  have xs : ∀ q, q ∈ s → upd c sz 4 q = c q ∧ wr_pu tg sz 0 q = tg q := fun q hq => wr_xt q (by rw [s1]; exact List.mem_cons_of_mem _ hq)
  refine ⟨m, m1, _, wr_pu tg sz 0, Or.inl g0, wr_emit (t := 0) j (wr_cl34 (Or.inr rfl)) (fun z => absurd z (by decide)) (fun _ => ⟨o, s, s1, fun z => ?_⟩) (fun z => absurd z (by decide)) (fun q hq => Or.inl ?_) (fun z => absurd z (by decide)) ?_ ?_ ?_, ?_⟩
  · obtain ⟨S', w', e1⟩ := s2 z
    rw [e1]
    exact wr_add_t (it := (0, tg o, 0, S'))
  · rw [wr_S_en]; exact hq
  · rw [wr_S_en, s1]
    exact wr_V_ext w s xs v
  · show wr_p e pr 1 w + 1 ≤ 1 + wr_p e pr 1 w
    omega
  · show wr_p e pr 0 w ≤ 1 + wr_p e pr 0 w
    omega
  · rw [wr_S_en, s1]
    exact wr_RO_ext s m xs (fun _ _ => ⟨rfl, rfl⟩) m4
end
end
section
/-! the whole code, and the labels of a run -/
/-- for every thing that a place of kind k belongs to, eo holds one such place -/
def wr_E (k : Int32) (c : Nat → Int32) (n : Nat) (eo : Nat → Int32) : Prop := ∀ o q s, q < n → c q = k → wr_S c q = o :: s → ∃ q' s', q' < n ∧ c q' = k ∧ wr_S c q' = o :: s' ∧ eo o = nI q'
theorem wr_E_0 {k : Int32} {c eo : Nat → Int32} : wr_E k c 0 eo := fun o q s h => by omega
theorem wr_E_no {k : Int32} {c eo : Nat → Int32} {n : Nat} (h : wr_E k c n eo) (hn : ¬ c n = k) : wr_E k c (n + 1) eo := fun o q s h1 h2 h3 => by
  by_cases z : q = n
  · subst z; exact absurd h2 hn
  · obtain ⟨q', s', a1, a2⟩ := h o q s (by omega) h2 h3
    exact ⟨q', s', by omega, a2⟩
theorem wr_E_up {k : Int32} {c eo : Nat → Int32} {n o : Nat} {s : List Nat} (h : wr_E k c n eo) (hn : c n = k) (hs : wr_S c n = o :: s) : wr_E k c (n + 1) (upd eo o (nI n)) := fun o' q s' h1 h2 h3 => by
  by_cases z : o' = o
  · subst z
    exact ⟨n, s, by omega, hn, hs, pk_us⟩
  · by_cases z2 : q = n
    · subst z2
      rw [hs] at h3
      injection h3 with h4 h5
      exact absurd h4.symm z
    · obtain ⟨q', s'', a1, a2, a3, a4⟩ := h o' q s' (by omega) h2 h3
      exact ⟨q', s'', by omega, a2, a3, (pk_un z).trans a4⟩
def wr_OK (wk A B : Nat → Nat) (c g eo el : Nat → Int32) (sz : Nat) : Prop := ∃ (G : Nat → Nat → Nat → Prop) (tg : Nat → Nat),
  G 0 0 0 ∧ (∀ q k x, G q k x → wr_Cl wk A c g tg sz G q k x) ∧ (∀ o, o < sz → c o = 0 → G (o + 1) 1 (tg o)) ∧
  (∀ o, o < sz → c o = 1 → ∃ q, q < sz ∧ eo o = nI q ∧ wr_S c (q + 1) = wr_S c o ∧ G (q + 1) 0 (tg o)) ∧
  (∀ o, o < sz → c o = 2 → ∃ q, q < sz ∧ el o = nI q ∧ wr_S c (q + 1) = o :: wr_S c o ∧ G (q + 1) 2 (B (tg o))) ∧
  (∀ q, q ≤ sz → (wr_S c q).length ≤ 23) ∧ sz ≤ 78
section
variable {e : Nat → Nat → Bool} {pr p A B wk : Nat → Nat} {c g oK oT eo el : Nat → Int32} {sz no : Nat} {w : List wr_It}
theorem wr_fin (h : wr_W e pr p A B wk oK oT no c g sz []) (h4 : wr_E 4 c sz eo) (h3 : wr_E 3 c sz el) : wr_OK wk A B c g eo el sz := by
  obtain ⟨G, tg, g0, ⟨j1, j2, j3, j4, j5, j6, j7, j8, j9, j10, j11⟩, r⟩ := h
  refine ⟨G, tg, g0, fun q k x z => ?_, j3, fun o a1 a2 => ?_, fun o a1 a2 => ?_, j9, by omega⟩
  · rcases j1 q k x z with z | ⟨_, it, w', z, _⟩
    · exact z
    · cases z
  · have js : wr_S c sz = [] := j8
    rcases j6 o a1 a2 with z | ⟨q, s, b1, b2, b3⟩
    · rw [js] at z; exact absurd z (by simp)
    · obtain ⟨q', s', d1, d2, d3, d4⟩ := h4 o q s b1 b2 b3
      obtain ⟨o', s'', f1, f2⟩ := j4 q' d1 d2
      rw [d3] at f1
      injection f1 with f3 f4
      subst f3
      refine ⟨q', d1, d4, ?_, f2 a2⟩
      rw [wr_S_e d2, d3]
      exact wr_S_suf q' [] o s' d3
  · rcases j7 o a1 a2 with z | ⟨q, s, b1, b2, b3⟩
    · exact absurd z (by show ¬ o ∈ []; simp)
    · obtain ⟨q', s', d1, d2, d3, d4⟩ := h3 o q s b1 b2 b3
      obtain ⟨o', s'', f1, f0, f2⟩ := j5 q' d1 d2
      rw [d3] at f1
      injection f1 with f3 f4
      subst f3
      refine ⟨q', d1, d4, ?_, f2⟩
      rw [wr_S_n (by rw [d2]; decide) (by rw [d2]; decide), d3, wr_S_suf q' [] o s' d3]
theorem wr_ini : wr_W e pr p A B wk oK oT 0 c g 0 [(0, 0, 0, wr_z)] := by
  have w8 := gr_w_8 e 0
  refine ⟨fun q k x => q = 0 ∧ k = 0 ∧ x = 0, fun _ => 0, ⟨rfl, rfl, rfl⟩, ⟨fun q k x z => ?_, fun k x z => ?_, fun o z => by omega, fun o z => by omega, fun o z => by omega, fun o z => by omega, fun o z => by omega, ?_, fun q hq => ?_, ?_, ?_⟩, rfl⟩
  · obtain ⟨z1, z2, z3⟩ := z
    rw [z1, z2, z3]
    exact Or.inr ⟨rfl, (0, 0, 0, wr_z), [], rfl, rfl, rfl⟩
  · obtain ⟨z1, z2⟩ := wr_top_c z
    exact ⟨rfl, z1, z2⟩
  · refine wr_V0i ⟨⟨by omega, gr_L_0, fun d h1 h2 h3 => absurd (gr_D_00 h2) h3, fun m h1 h2 h3 h4 h5 => absurd (gr_D_00 h4) h5⟩, rfl⟩
  · rw [show q = 0 by omega]; exact Nat.zero_le _
  · show wr_T e 1 0 + 0 + 0 ≤ 78
    rw [wr_T_1]; omega
  · show wr_T e 0 0 + 0 ≤ 23
    rw [wr_T_0]; omega
end
/-- the labels as their array holds them -/
def wr_RL (lb : Nat → Int32) : List Nat → Nat → Prop
  | [], n => n = 0
  | o :: s, n => ∃ m, n = m + 1 ∧ lb m = nI o ∧ wr_RL lb s m
theorem wr_RL_ext {lb lb' : Nat → Int32} : ∀ (s : List Nat) (n : Nat), (∀ j, j < n → lb' j = lb j) → wr_RL lb s n → wr_RL lb' s n := by
  intro s
  induction s with
  | nil => intro n _ h; exact h
  | cons o s ih =>
    intro n hn h
    obtain ⟨m, h1, h2, h3⟩ := h
    exact ⟨m, h1, (hn m (by omega)).trans h2, ih m (fun j hj => hn j (by omega)) h3⟩
theorem wr_RL_len {lb : Nat → Int32} : ∀ (s : List Nat) (n : Nat), wr_RL lb s n → s.length = n := by
  intro s
  induction s with
  | nil => intro n h; exact h.symm
  | cons o s ih =>
    intro n h
    obtain ⟨m, h1, h2, h3⟩ := h
    rw [List.length_cons, ih m h3, h1]
theorem wr_RL_push {lb : Nat → Int32} {s : List Nat} {n o : Nat} (h : wr_RL lb s n) : wr_RL (upd lb n (nI o)) (o :: s) (n + 1) :=
  ⟨n, rfl, pk_us, wr_RL_ext s n (fun j hj => pk_un (by omega)) h⟩
theorem wr_RL_get {lb : Nat → Int32} : ∀ (s : List Nat) (n i o : Nat), wr_RL lb s n → s[i]? = some o → i < n ∧ lb (n - 1 - i) = nI o ∧ ∃ pre s', s = pre ++ o :: s' ∧ wr_RL lb s' (n - 1 - i) := by
  intro s
  induction s with
  | nil => intro n i o _ h; simp at h
  | cons x s ih =>
    intro n i o h hi
    obtain ⟨m, h1, h2, h3⟩ := h
    cases i with
    | zero =>
      have : x = o := by simpa using hi
      subst this
      refine ⟨by omega, ?_, [], s, rfl, ?_⟩
      · rw [show n - 1 - 0 = m by omega]; exact h2
      · rw [show n - 1 - 0 = m by omega]; exact h3
    | succ i =>
      have hi : s[i]? = some o := by simpa using hi
      obtain ⟨q1, q2, pre, s', q3, q4⟩ := ih m i o h3 hi
      refine ⟨by omega, ?_, x :: pre, s', by rw [q3]; rfl, ?_⟩
      · rw [show n - 1 - (i + 1) = m - 1 - i by omega]; exact q2
      · rw [show n - 1 - (i + 1) = m - 1 - i by omega]; exact q4
end
section
/-! the component's reading methods -/
/-- the edges of the ways -/
def gr_e (wk A B : Nat → Nat) (b c : Nat) : Bool := if wk b = 0 then false else if wk b = 1 then c == A b else (c == A b || c == B b)
/-- the arrays hold the ways -/
def wy_R (wk A B : Nat → Nat) (aK aA aB : Nat → Int32) : Prop := ∀ b, b < 8 → aK b = nI (wk b) ∧ aA b = nI (A b) ∧ aB b = nI (B b) ∧ wk b ≤ 4 ∧ A b < 8 ∧ B b < 8
theorem xw_tn {x : Bool} (h : ¬ x = false) : x = true := by cases x with | true => rfl | false => exact absurd rfl h
theorem xw_8 {i d : Nat} (h : i + (d + 1) = 8) : ¬ (8 : Int32) ≤ nI i := nI_ge (b := 8) (by omega) (by decide)
theorem xw_8e {i : Nat} (h : i + 0 = 8) : (8 : Int32) ≤ nI i := nI_le (a := 8) (by omega) (by omega)
theorem xw_in {P Q : Prop} {S : Nat → Bool} {b : Nat} (hb : b < 8) (f : S b = false → P) (g : S b = true → Q) : wpX_in (fun r => (r = 0 → P) ∧ (¬ r = 0 → Q)) (ms_k S) (nI b) :=
  ⟨fun h => br_t rfl (f ((ms_get0 S hb).mp h)), fun h => br_f (by decide) (g (xw_tn fun z => h ((ms_get0 S hb).mpr z)))⟩
theorem xw_blk {post : Int32 → Prop} {b : Nat} (hb : b < 8) (h : post 1) : wpX_isBlock post (nI b) := br_f (nI_pos (by omega)) (br_f (nI_ge (b := 8) (by omega) (by decide)) h)
theorem xw_nblk {post : Int32 → Prop} {x : Int32} (hx : x < 0 ∨ nI 8 ≤ x) (h : post 0) : wpX_isBlock post x := by
  rcases hx with hx | hx
  · exact br_t hx h
  · exact br_c (fun _ => h) fun _ => br_t hx h
theorem xw_size4 {post : Int32 → Prop} {S : Nat → Bool} (hp : post (nI (gr_c S 8))) : ∀ d i, i + d = 8 → wX_sizeOf_4 post (ms_k S) (d + 1) (nI (gr_c S i)) (nI i) := by
  intro d
  induction d with
  | zero =>
    intro i hi
    have : i = 8 := by omega
    subst this
    exact br_t (xw_8e hi) hp
  | succ d ih =>
    intro i hi
    refine br_f (xw_8 hi) (nm_r (e' := nI (gr_c S (i + 1))) ?_ (nm_r (nI_1 i) (ih (i + 1) (by omega))))
    rw [ms_getN S (by omega), nI_add]; rfl
theorem xw_size {post : Int32 → Prop} {S : Nat → Bool} (hp : post (nI (gr_c S 8))) : wpX_sizeOf post (ms_k S) := ⟨9, xw_size4 hp 8 0 rfl⟩
section
variable {f_known f_liveSet f_ordered f_loopSet f_mergeSet f_written f_codeSize f_workCount f_openCount f_state f_outCount f_carriedCount f_labelCount : Int32} {a_actKind a_actNumber a_wayKind a_wayA a_wayB a_dominating a_forward a_parent a_place a_code a_codeArg a_endOf a_elseOf a_workKind a_workBlock a_workRest a_openKind a_openTarget a_registers a_lately a_visitCount a_labels : Nat → Int32}
variable {wk A B : Nat → Nat}
theorem xw_next {post : Int32 → Prop} (hw : wy_R wk A B a_wayKind a_wayA a_wayB) {b : Nat} (hb : b < 8) (hp : post (ms_k (gr_e wk A B b))) : wpX_next post (f_known, f_liveSet, f_ordered, f_loopSet, f_mergeSet, f_written, f_codeSize, f_workCount, f_openCount, f_state, f_outCount, f_carriedCount, f_labelCount, a_actKind, a_actNumber, a_wayKind, a_wayA, a_wayB, a_dominating, a_forward, a_parent, a_place, a_code, a_codeArg, a_endOf, a_elseOf, a_workKind, a_workBlock, a_workRest, a_openKind, a_openTarget, a_registers, a_lately, a_visitCount, a_labels) (nI b) := by
  obtain ⟨h1, h2, h3, h4, h5, h6⟩ := hw b hb
  have hc : (nI b).toNatClampNeg = b := nI_clamp (by omega)
  have hi : vp_in (nI b) 8 := vp_in_nI hb (by decide)
  unfold wpX_next
  dsimp only
  rw [hc, h1, h2, h3]
  refine ⟨hi, pk_eq (wk b) 0 (fun z => ?_) (fun z => ⟨hi, pk_eq (wk b) 1 (fun y => ⟨hi, ?_⟩) (fun y => ⟨hi, hi, ?_⟩)⟩)⟩
  · rw [ms_eq0 (S := gr_e wk A B b) fun i _ => if_pos z] at hp; exact hp
  · rw [ms_bit h5, ms_ext (T := gr_e wk A B b) fun i _ => ?_]
    · exact hp
    · show _ = gr_e wk A B b i
      unfold gr_e
      rw [if_neg z, if_pos y]
  · rw [ms_bit h5, ms_bit h6, ms_or, ms_ext (T := gr_e wk A B b) fun i _ => ?_]
    · exact hp
    · show _ = gr_e wk A B b i
      unfold gr_e
      rw [if_neg z, if_neg y]
/-- meet -/
theorem xw_meet7 {post : Int32 → Prop} {L : Nat → Bool} {D : Nat → Nat → Bool} {b : Nat} (hb : b < 8) (hw : wy_R wk A B a_wayKind a_wayA a_wayB) (hd : ∀ a, a < 8 → a_dominating a = ms_k (D a)) (hp : post (ms_k (fun h => gr_m L (gr_e wk A B) D b h 8))) : ∀ d i, i + d = 8 → wX_meet_7 post (nI b) f_known (ms_k L) f_ordered f_loopSet f_mergeSet f_written f_codeSize f_workCount f_openCount f_state f_outCount f_carriedCount f_labelCount a_actKind a_actNumber a_wayKind a_wayA a_wayB a_dominating a_forward a_parent a_place a_code a_codeArg a_endOf a_elseOf a_workKind a_workBlock a_workRest a_openKind a_openTarget a_registers a_lately a_visitCount a_labels (d + 1) (ms_k (fun h => gr_m L (gr_e wk A B) D b h i)) (nI i) := by
  intro d
  induction d with
  | zero =>
    intro i hi
    have : i = 8 := by omega
    subst this
    exact br_t (xw_8e hi) hp
  | succ d ih =>
    intro i hi
    have i8 : i < 8 := by omega
    have hc : (nI i).toNatClampNeg = i := nI_clamp (by omega)
    have next := ih (i + 1) (by omega)
    have keep : (L i && gr_e wk A B i b) = false → ms_k (fun h => gr_m L (gr_e wk A B) D b h (i + 1)) = ms_k (fun h => gr_m L (gr_e wk A B) D b h i) := fun z => ms_ext fun h _ => by
      show (gr_m L (gr_e wk A B) D b h i && (!(L i && gr_e wk A B i b) || D i h)) = _
      rw [z]; simp
    refine br_f (xw_8 hi) (xw_in i8 (fun z => nm_r (nI_1 i) ?_) (fun z => xw_next hw i8 (xw_in hb (fun y => nm_r (nI_1 i) ?_) (fun y => ⟨vp_in_nI i8 (by decide), nm_r (e' := ms_k (fun h => gr_m L (gr_e wk A B) D b h (i + 1))) ?_ (nm_r (nI_1 i) next)⟩))))
    · rw [keep (by rw [z]; rfl)] at next; exact next
    · rw [keep (by rw [y]; simp)] at next; exact next
    · rw [hc, hd i i8, ms_and]
      refine ms_ext fun h _ => ?_
      show _ = (gr_m L (gr_e wk A B) D b h i && (!(L i && gr_e wk A B i b) || D i h))
      rw [z, y]; simp
theorem xw_meet {post : Int32 → Prop} {L : Nat → Bool} {D : Nat → Nat → Bool} {b : Nat} (hb : b < 8) (hw : wy_R wk A B a_wayKind a_wayA a_wayB) (hd : ∀ a, a < 8 → a_dominating a = ms_k (D a)) (hp : post (ms_k (fun h => gr_m L (gr_e wk A B) D b h 8))) : wpX_meet post (f_known, ms_k L, f_ordered, f_loopSet, f_mergeSet, f_written, f_codeSize, f_workCount, f_openCount, f_state, f_outCount, f_carriedCount, f_labelCount, a_actKind, a_actNumber, a_wayKind, a_wayA, a_wayB, a_dominating, a_forward, a_parent, a_place, a_code, a_codeArg, a_endOf, a_elseOf, a_workKind, a_workBlock, a_workRest, a_openKind, a_openTarget, a_registers, a_lately, a_visitCount, a_labels) (nI b) := ⟨9, xw_meet7 hb hw hd hp 8 0 rfl⟩
/-- before -/
theorem xw_before4 {post : Int32 → Prop} {F : Nat → Nat → Bool} {b : Nat} (hb : b < 8) (hf : ∀ a, a < 8 → a_forward a = ms_k (F a)) (hp : post (ms_k (fun a => F a b))) : ∀ d i, i + d = 8 → wX_before_4 post (nI b) f_known f_liveSet f_ordered f_loopSet f_mergeSet f_written f_codeSize f_workCount f_openCount f_state f_outCount f_carriedCount f_labelCount a_actKind a_actNumber a_wayKind a_wayA a_wayB a_dominating a_forward a_parent a_place a_code a_codeArg a_endOf a_elseOf a_workKind a_workBlock a_workRest a_openKind a_openTarget a_registers a_lately a_visitCount a_labels (d + 1) (ms_k (fun a => decide (a < i) && F a b)) (nI i) := by
  intro d
  induction d with
  | zero =>
    intro i hi
    have : i = 8 := by omega
    subst this
    refine br_t (xw_8e hi) ?_
    rw [ms_ext (T := fun a => F a b) fun a ha => ?_]
    · exact hp
    · show (decide (a < 8) && F a b) = _
      rw [decide_eq_true ha]; rfl
  | succ d ih =>
    intro i hi
    have i8 : i < 8 := by omega
    have hc : (nI i).toNatClampNeg = i := nI_clamp (by omega)
    have next := ih (i + 1) (by omega)
    have hin := vp_in_nI (N := 8) i8 (by decide)
    refine br_f (xw_8 hi) ⟨hin, ?_⟩
    rw [hc, hf i i8]
    refine xw_in hb (fun z => nm_r (e' := ms_k (fun a => decide (a < i + 1) && F a b)) ?_ (nm_r (nI_1 i) next)) (fun z => nm_r (e' := ms_k (fun a => decide (a < i + 1) && F a b)) ?_ (nm_r (nI_1 i) next))
    · rw [ms_0, ms_or]
      refine ms_ext fun a _ => ?_
      show ((decide (a < i) && F a b) || false) = (decide (a < i + 1) && F a b)
      by_cases q : a = i
      · subst q; rw [z]; simp
      · rw [show decide (a < i + 1) = decide (a < i) from decide_eq_decide.mpr (by omega)]; simp
    · rw [ms_bit i8, ms_or]
      refine ms_ext fun a _ => ?_
      show ((decide (a < i) && F a b) || (a == i)) = (decide (a < i + 1) && F a b)
      by_cases q : a = i
      · subst q; rw [z]; simp
      · rw [show decide (a < i + 1) = decide (a < i) from decide_eq_decide.mpr (by omega), show (a == i) = false by simpa using q]; simp
theorem xw_before {post : Int32 → Prop} {F : Nat → Nat → Bool} {b : Nat} (hb : b < 8) (hf : ∀ a, a < 8 → a_forward a = ms_k (F a)) (hp : post (ms_k (fun a => F a b))) : wpX_before post (f_known, f_liveSet, f_ordered, f_loopSet, f_mergeSet, f_written, f_codeSize, f_workCount, f_openCount, f_state, f_outCount, f_carriedCount, f_labelCount, a_actKind, a_actNumber, a_wayKind, a_wayA, a_wayB, a_dominating, a_forward, a_parent, a_place, a_code, a_codeArg, a_endOf, a_elseOf, a_workKind, a_workBlock, a_workRest, a_openKind, a_openTarget, a_registers, a_lately, a_visitCount, a_labels) (nI b) := by
  have e0 : (0 : Int32) = ms_k (fun a => decide (a < 0) && F a b) := (ms_eq0 fun i _ => by simp).symm
  refine ⟨9, ?_⟩
  show wX_before_4 post (nI b) f_known f_liveSet f_ordered f_loopSet f_mergeSet f_written f_codeSize f_workCount f_openCount f_state f_outCount f_carriedCount f_labelCount a_actKind a_actNumber a_wayKind a_wayA a_wayB a_dominating a_forward a_parent a_place a_code a_codeArg a_endOf a_elseOf a_workKind a_workBlock a_workRest a_openKind a_openTarget a_registers a_lately a_visitCount a_labels 9 0 (nI 0)
  rw [e0]
  exact xw_before4 hb hf hp 8 0 rfl
/-- nearest -/
def xw_N (D : Nat → Nat → Bool) (b i : Nat) (r : Int32) : Prop := (r = -1 ∧ ∀ h, h < i → h ≠ b → D b h = false) ∨ ∃ q, q < 8 ∧ r = nI q ∧ q ≠ b ∧ D b q = true ∧ ∀ h, h < i → h ≠ b → D b h = true → gr_c (D h) 8 ≤ gr_c (D q) 8
theorem xw_N_no {D : Nat → Nat → Bool} {b i : Nat} {r : Int32} (h : xw_N D b i r) (hn : i = b ∨ D b i = false) : xw_N D b (i + 1) r := by
  rcases h with ⟨h1, h2⟩ | ⟨q, h1, h2, h3, h4, h5⟩
  · refine Or.inl ⟨h1, fun x hx ne => ?_⟩
    by_cases z : x = i
    · subst z; rcases hn with hn | hn
      · exact absurd hn ne
      · exact hn
    · exact h2 x (by omega) ne
  · refine Or.inr ⟨q, h1, h2, h3, h4, fun x hx ne hd => ?_⟩
    by_cases z : x = i
    · subst z; rcases hn with hn | hn
      · exact absurd hn ne
      · rw [hn] at hd; cases hd
    · exact h5 x (by omega) ne hd
theorem xw_near4 {post : Int32 → Prop} {D : Nat → Nat → Bool} {b : Nat} (hb : b < 8) (hd : ∀ a, a < 8 → a_dominating a = ms_k (D a)) (hp : ∀ r, xw_N D b 8 r → post r) : ∀ d i r, i + d = 8 → xw_N D b i r → wX_nearest_4 post (nI b) f_known f_liveSet f_ordered f_loopSet f_mergeSet f_written f_codeSize f_workCount f_openCount f_state f_outCount f_carriedCount f_labelCount a_actKind a_actNumber a_wayKind a_wayA a_wayB a_dominating a_forward a_parent a_place a_code a_codeArg a_endOf a_elseOf a_workKind a_workBlock a_workRest a_openKind a_openTarget a_registers a_lately a_visitCount a_labels (d + 1) r (nI i) := by
  intro d
  induction d with
  | zero =>
    intro i r hi hr
    have : i = 8 := by omega
    subst this
    exact br_t (xw_8e hi) (hp r hr)
  | succ d ih =>
    intro i r hi hr
    have i8 : i < 8 := by omega
    have hc : (nI i).toNatClampNeg = i := nI_clamp (by omega)
    have hcb : (nI b).toNatClampNeg = b := nI_clamp (by omega)
    have hin := vp_in_nI (N := 8) i8 (by decide)
    have hinb := vp_in_nI (N := 8) hb (by decide)
    refine br_f (xw_8 hi) (pk_eq i b (fun z => nm_r (nI_1 i) (ih (i + 1) r (by omega) (xw_N_no hr (Or.inl z)))) (fun z => ⟨hinb, ?_⟩))
    rw [hcb, hd b hb]
    refine xw_in i8 (fun y => nm_r (nI_1 i) (ih (i + 1) r (by omega) (xw_N_no hr (Or.inr y)))) (fun y => ?_)
    have self : (∀ h, h < i → h ≠ b → D b h = true → gr_c (D h) 8 ≤ gr_c (D i) 8) → xw_N D b (i + 1) (nI i) := fun hm => Or.inr ⟨i, i8, rfl, z, y, fun h hh ne hdh => by
      by_cases w : h = i
      · rw [w]; exact Nat.le_refl _
      · exact hm h (by omega) ne hdh⟩
    rcases hr with ⟨h1, h2⟩ | ⟨q, h1, h2, h3, h4, h5⟩
    · subst h1
      refine br_t (by decide) ?_
      unfold wX_nearest_53 wX_nearest_58
      refine br_f (by decide) (nm_r (nI_1 i) (ih (i + 1) (nI i) (by omega) (self fun h hh ne hdh => ?_)))
      rw [h2 h hh ne] at hdh; cases hdh
    · subst h2
      have hcq : (nI q).toNatClampNeg = q := nI_clamp (by omega)
      refine br_f (nI_pos (by omega)) ⟨hin, ?_⟩
      rw [hc, hd i i8]
      refine xw_size ⟨vp_in_nI h1 (by decide), ?_⟩
      rw [hcq, hd q h1]
      have l1 := gr_c_le (D i) 8
      have l2 := gr_c_le (D q) 8
      refine xw_size (pk_le (gr_c (D i) 8) (gr_c (D q) 8) (fun w => ?_) (fun w => ?_))
      · unfold wX_nearest_58
        refine br_t rfl (nm_r (nI_1 i) (ih (i + 1) (nI q) (by omega) (Or.inr ⟨q, h1, rfl, h3, h4, fun h hh ne hdh => ?_⟩)))
        by_cases v : h = i
        · rw [v]; exact w
        · exact h5 h (by omega) ne hdh
      · unfold wX_nearest_53 wX_nearest_58
        refine br_f (by decide) (nm_r (nI_1 i) (ih (i + 1) (nI i) (by omega) (self fun h hh ne hdh => ?_)))
        have := h5 h hh ne hdh
        omega
theorem xw_near {post : Int32 → Prop} {D : Nat → Nat → Bool} {b : Nat} (hb : b < 8) (hd : ∀ a, a < 8 → a_dominating a = ms_k (D a)) (hp : ∀ r, xw_N D b 8 r → post r) : wpX_nearest post (f_known, f_liveSet, f_ordered, f_loopSet, f_mergeSet, f_written, f_codeSize, f_workCount, f_openCount, f_state, f_outCount, f_carriedCount, f_labelCount, a_actKind, a_actNumber, a_wayKind, a_wayA, a_wayB, a_dominating, a_forward, a_parent, a_place, a_code, a_codeArg, a_endOf, a_elseOf, a_workKind, a_workBlock, a_workRest, a_openKind, a_openTarget, a_registers, a_lately, a_visitCount, a_labels) (nI b) :=
  ⟨9, xw_near4 hb hd hp 8 0 (-1) rfl (Or.inl ⟨rfl, fun h hh => by omega⟩)⟩
/-- lastOf -/
def xw_La (S : Nat → Bool) (p : Nat → Nat) (i : Nat) (r : Int32) : Prop := (r = -1 ∧ ∀ m, m < i → S m = false) ∨ ∃ y, y < 8 ∧ r = nI y ∧ S y = true ∧ ∀ m, m < i → S m = true → p m ≤ p y
theorem xw_last4 {post : Int32 → Prop} {S : Nat → Bool} {p : Nat → Nat} (hpl : ∀ m, m < 8 → S m = true → a_place m = nI (p m) ∧ p m < 8) (hp : ∀ r, xw_La S p 8 r → post r) : ∀ d i r, i + d = 8 → xw_La S p i r → wX_lastOf_4 post (ms_k S) f_known f_liveSet f_ordered f_loopSet f_mergeSet f_written f_codeSize f_workCount f_openCount f_state f_outCount f_carriedCount f_labelCount a_actKind a_actNumber a_wayKind a_wayA a_wayB a_dominating a_forward a_parent a_place a_code a_codeArg a_endOf a_elseOf a_workKind a_workBlock a_workRest a_openKind a_openTarget a_registers a_lately a_visitCount a_labels (d + 1) r (nI i) := by
  intro d
  induction d with
  | zero =>
    intro i r hi hr
    have : i = 8 := by omega
    subst this
    exact br_t (xw_8e hi) (hp r hr)
  | succ d ih =>
    intro i r hi hr
    have i8 : i < 8 := by omega
    have hc : (nI i).toNatClampNeg = i := nI_clamp (by omega)
    have hin := vp_in_nI (N := 8) i8 (by decide)
    refine br_f (xw_8 hi) (xw_in i8 (fun y => nm_r (nI_1 i) (ih (i + 1) r (by omega) ?_)) (fun y => ?_))
    · rcases hr with ⟨h1, h2⟩ | ⟨q, h1, h2, h3, h4⟩
      · refine Or.inl ⟨h1, fun m hm => ?_⟩
        by_cases z : m = i
        · rw [z]; exact y
        · exact h2 m (by omega)
      · refine Or.inr ⟨q, h1, h2, h3, fun m hm hS => ?_⟩
        by_cases z : m = i
        · rw [z, y] at hS; cases hS
        · exact h4 m (by omega) hS
    · rcases hr with ⟨h1, h2⟩ | ⟨q, h1, h2, h3, h4⟩
      · subst h1
        refine br_t (by decide) (nm_r (nI_1 i) (ih (i + 1) (nI i) (by omega) (Or.inr ⟨i, i8, rfl, y, fun m hm hS => ?_⟩)))
        by_cases z : m = i
        · rw [z]; exact Nat.le_refl _
        · rw [h2 m (by omega)] at hS; cases hS
      · subst h2
        have hcq : (nI q).toNatClampNeg = q := nI_clamp (by omega)
        obtain ⟨a1, a2⟩ := hpl i i8 y
        obtain ⟨b1, b2⟩ := hpl q h1 h3
        refine br_f (nI_pos (by omega)) ⟨hin, vp_in_nI h1 (by decide), ?_⟩
        rw [hc, hcq, a1, b1]
        refine pk_le (p i) (p q) (fun w => nm_r (nI_1 i) (ih (i + 1) (nI q) (by omega) (Or.inr ⟨q, h1, rfl, h3, fun m hm hS => ?_⟩))) (fun w => nm_r (nI_1 i) (ih (i + 1) (nI i) (by omega) (Or.inr ⟨i, i8, rfl, y, fun m hm hS => ?_⟩)))
        · by_cases z : m = i
          · rw [z]; exact w
          · exact h4 m (by omega) hS
        · by_cases z : m = i
          · rw [z]; exact Nat.le_refl _
          · have := h4 m (by omega) hS
            omega
theorem xw_last {post : Int32 → Prop} {S : Nat → Bool} {p : Nat → Nat} (hpl : ∀ m, m < 8 → S m = true → a_place m = nI (p m) ∧ p m < 8) (hp : ∀ r, xw_La S p 8 r → post r) : wpX_lastOf post (f_known, f_liveSet, f_ordered, f_loopSet, f_mergeSet, f_written, f_codeSize, f_workCount, f_openCount, f_state, f_outCount, f_carriedCount, f_labelCount, a_actKind, a_actNumber, a_wayKind, a_wayA, a_wayB, a_dominating, a_forward, a_parent, a_place, a_code, a_codeArg, a_endOf, a_elseOf, a_workKind, a_workBlock, a_workRest, a_openKind, a_openTarget, a_registers, a_lately, a_visitCount, a_labels) (ms_k S) :=
  ⟨9, xw_last4 hpl hp 8 0 (-1) rfl (Or.inl ⟨rfl, fun h hh => by omega⟩)⟩
end
end
section
/-! the component learns: live blocks, dominators, forward edges, loops, merges, parents, places -/
section
variable {f_known f_liveSet f_ordered f_loopSet f_mergeSet f_written f_codeSize f_workCount f_openCount f_state f_outCount f_carriedCount f_labelCount : Int32} {a_actKind a_actNumber a_wayKind a_wayA a_wayB a_dominating a_forward a_parent a_place a_code a_codeArg a_endOf a_elseOf a_workKind a_workBlock a_workRest a_openKind a_openTarget a_registers a_lately a_visitCount a_labels : Nat → Int32}
variable {wk A B : Nat → Nat}
theorem xl_fl15 {post : SX → Prop} {J7 : Int32 → Int32 → Prop} {k : Nat} (hw : wy_R wk A B a_wayKind a_wayA a_wayB) (hJ : J7 (nI (k + 1)) (ms_k (gr_s (gr_e wk A B) 8 (8 * (k + 1))))) : ∀ d i, i + d = 8 → wX_findLive_15 post J7 (nI k) f_known f_ordered f_loopSet f_mergeSet f_written f_codeSize f_workCount f_openCount f_state f_outCount f_carriedCount f_labelCount a_actKind a_actNumber a_wayKind a_wayA a_wayB a_dominating a_forward a_parent a_place a_code a_codeArg a_endOf a_elseOf a_workKind a_workBlock a_workRest a_openKind a_openTarget a_registers a_lately a_visitCount a_labels (d + 1) (nI i) (ms_k (gr_s (gr_e wk A B) 8 (8 * k + i))) := by
  intro d
  induction d with
  | zero =>
    intro i hi
    have : i = 8 := by omega
    subst this
    exact br_t (xw_8e hi) (nm_r (nI_1 k) hJ)
  | succ d ih =>
    intro i hi
    have i8 : i < 8 := by omega
    have next := ih (i + 1) (by omega)
    have m8 : (8 * k + i) % 8 = i := by omega
    have st : ∀ c, c < 8 → gr_s (gr_e wk A B) 8 (8 * k + (i + 1)) c = (gr_s (gr_e wk A B) 8 (8 * k + i) c || (gr_s (gr_e wk A B) 8 (8 * k + i) i && gr_e wk A B i c)) := fun c hc => by
      show ((gr_s (gr_e wk A B) 8 (8 * k + i) c || (gr_s (gr_e wk A B) 8 (8 * k + i) ((8 * k + i) % 8) && gr_e wk A B ((8 * k + i) % 8) c)) && !(c == 8)) = _
      rw [m8, show (c == 8) = false by simpa using (by omega : ¬ c = 8)]
      simp
    refine br_f (xw_8 hi) (xw_in i8 (fun z => nm_r (nI_1 i) ?_) (fun z => xw_next hw i8 (nm_r (e' := ms_k (gr_s (gr_e wk A B) 8 (8 * k + (i + 1)))) ?_ (nm_r (nI_1 i) next))))
    · rw [ms_ext (S := gr_s (gr_e wk A B) 8 (8 * k + i)) (T := gr_s (gr_e wk A B) 8 (8 * k + (i + 1))) fun c hc => ?_]
      · exact next
      · rw [st c hc, z]; simp
    · rw [ms_or]
      refine ms_ext fun c hc => ?_
      rw [st c hc, z]; simp
theorem xl_fl7 {post : SX → Prop} (hw : wy_R wk A B a_wayKind a_wayA a_wayB) (hp : post (f_known, ms_k (gr_L (gr_e wk A B)), f_ordered, f_loopSet, f_mergeSet, f_written, f_codeSize, f_workCount, f_openCount, f_state, f_outCount, f_carriedCount, f_labelCount, a_actKind, a_actNumber, a_wayKind, a_wayA, a_wayB, a_dominating, a_forward, a_parent, a_place, a_code, a_codeArg, a_endOf, a_elseOf, a_workKind, a_workBlock, a_workRest, a_openKind, a_openTarget, a_registers, a_lately, a_visitCount, a_labels)) : ∀ d k, k + d = 8 → wX_findLive_7 post f_known f_ordered f_loopSet f_mergeSet f_written f_codeSize f_workCount f_openCount f_state f_outCount f_carriedCount f_labelCount a_actKind a_actNumber a_wayKind a_wayA a_wayB a_dominating a_forward a_parent a_place a_code a_codeArg a_endOf a_elseOf a_workKind a_workBlock a_workRest a_openKind a_openTarget a_registers a_lately a_visitCount a_labels (d + 1) (nI k) (ms_k (gr_s (gr_e wk A B) 8 (8 * k))) := by
  intro d
  induction d with
  | zero =>
    intro k hk
    have : k = 8 := by omega
    subst this
    exact br_t (xw_8e hk) hp
  | succ d ih =>
    intro k hk
    exact br_f (xw_8 hk) ⟨9, xl_fl15 hw (ih (k + 1) (by omega)) 8 0 rfl⟩
theorem xl_findLive {post : SX → Prop} (hw : wy_R wk A B a_wayKind a_wayA a_wayB) (hp : post (f_known, ms_k (gr_L (gr_e wk A B)), f_ordered, f_loopSet, f_mergeSet, f_written, f_codeSize, f_workCount, f_openCount, f_state, f_outCount, f_carriedCount, f_labelCount, a_actKind, a_actNumber, a_wayKind, a_wayA, a_wayB, a_dominating, a_forward, a_parent, a_place, a_code, a_codeArg, a_endOf, a_elseOf, a_workKind, a_workBlock, a_workRest, a_openKind, a_openTarget, a_registers, a_lately, a_visitCount, a_labels)) : wpX_findLive post (f_known, f_liveSet, f_ordered, f_loopSet, f_mergeSet, f_written, f_codeSize, f_workCount, f_openCount, f_state, f_outCount, f_carriedCount, f_labelCount, a_actKind, a_actNumber, a_wayKind, a_wayA, a_wayB, a_dominating, a_forward, a_parent, a_place, a_code, a_codeArg, a_endOf, a_elseOf, a_workKind, a_workBlock, a_workRest, a_openKind, a_openTarget, a_registers, a_lately, a_visitCount, a_labels) := by
  refine ⟨9, ?_⟩
  have e1 : (1 : Int32) = ms_k (gr_s (gr_e wk A B) 8 (8 * 0)) := by
    rw [ms_1]
    refine ms_ext fun c _ => ?_
    show (c == 0) = ((c == 0) && !((8 : Nat) == 0))
    simp
  show wX_findLive_7 post f_known f_ordered f_loopSet f_mergeSet f_written f_codeSize f_workCount f_openCount f_state f_outCount f_carriedCount f_labelCount a_actKind a_actNumber a_wayKind a_wayA a_wayB a_dominating a_forward a_parent a_place a_code a_codeArg a_endOf a_elseOf a_workKind a_workBlock a_workRest a_openKind a_openTarget a_registers a_lately a_visitCount a_labels 9 (nI 0) 1
  rw [e1]
  exact xl_fl7 hw hp 8 0 rfl
theorem xl_fd57 {post : SX → Prop} {J49 : Int32 → (Nat → Int32) → (Nat → Int32) → (Nat → Int32) → (Nat → Int32) → (Nat → Int32) → (Nat → Int32) → (Nat → Int32) → (Nat → Int32) → (Nat → Int32) → (Nat → Int32) → (Nat → Int32) → (Nat → Int32) → (Nat → Int32) → (Nat → Int32) → (Nat → Int32) → (Nat → Int32) → (Nat → Int32) → (Nat → Int32) → (Nat → Int32) → (Nat → Int32) → (Nat → Int32) → (Nat → Int32) → Prop} {k : Nat} {L : Nat → Bool} (hw : wy_R wk A B a_wayKind a_wayA a_wayB) (hJ : ∀ a_dominating : Nat → Int32, (∀ b, b < 8 → a_dominating b = ms_k (gr_I L (gr_e wk A B) (7 * (k + 1)) b)) → J49 (nI (k + 1)) a_actKind a_actNumber a_wayKind a_wayA a_wayB a_dominating a_forward a_parent a_place a_code a_codeArg a_endOf a_elseOf a_workKind a_workBlock a_workRest a_openKind a_openTarget a_registers a_lately a_visitCount a_labels) : ∀ d i (a_dominating : Nat → Int32), i + d = 8 → 1 ≤ i → (∀ b, b < 8 → a_dominating b = ms_k (gr_I L (gr_e wk A B) (7 * k + (i - 1)) b)) → wX_findDominators_57 post J49 (nI k) f_known (ms_k L) f_ordered f_loopSet f_mergeSet f_written f_codeSize f_workCount f_openCount f_state f_outCount f_carriedCount f_labelCount (d + 1) (nI i) a_actKind a_actNumber a_wayKind a_wayA a_wayB a_dominating a_forward a_parent a_place a_code a_codeArg a_endOf a_elseOf a_workKind a_workBlock a_workRest a_openKind a_openTarget a_registers a_lately a_visitCount a_labels := by
  intro d
  induction d with
  | zero =>
    intro i dom hi i1 hd
    have : i = 8 := by omega
    subst this
    exact br_t (xw_8e hi) (nm_r (nI_1 k) (hJ dom (by rw [show 7 * (k + 1) = 7 * k + (8 - 1) by omega]; exact hd)))
  | succ d ih =>
    intro i dom hi i1 hd
    have i8 : i < 8 := by omega
    have hc : (nI i).toNatClampNeg = i := nI_clamp (by omega)
    have mm : 7 * k + (i + 1 - 1) = 7 * k + (i - 1) + 1 := by omega
    have m7 : i = (7 * k + (i - 1)) % 7 + 1 := by omega
    refine br_f (xw_8 hi) (xw_in i8 (fun z => nm_r (nI_1 i) (ih (i + 1) dom (by omega) (by omega) fun b hb => ?_)) (fun z => xw_meet i8 hw hd ⟨vp_in_nI i8 (by decide), nm_e (nm_r (nI_1 i) (ih (i + 1) _ (by omega) (by omega) fun b hb => ?_))⟩))
    · rw [hd b hb, mm]
      refine ms_ext fun h _ => (gr_I_no fun y => ?_).symm
      rw [y.1, ← m7, z] at y
      exact absurd y.2 (by decide)
    · rw [hc, mm]
      by_cases y : b = i
      · subst y
        rw [pk_us, ms_bit i8, ms_or, ms_vk]
        exact ms_ext fun h _ => (gr_I_up m7 z).symm
      · rw [pk_un y, hd b hb]
        refine ms_ext fun h _ => (gr_I_no fun w => y (w.1.trans m7.symm)).symm
theorem xl_fd49 {post : SX → Prop} {L : Nat → Bool} (hw : wy_R wk A B a_wayKind a_wayA a_wayB) (hp : ∀ a_dominating : Nat → Int32, (∀ b, b < 8 → a_dominating b = ms_k (gr_I L (gr_e wk A B) 448 b)) → post (f_known, ms_k L, f_ordered, f_loopSet, f_mergeSet, f_written, f_codeSize, f_workCount, f_openCount, f_state, f_outCount, f_carriedCount, f_labelCount, a_actKind, a_actNumber, a_wayKind, a_wayA, a_wayB, a_dominating, a_forward, a_parent, a_place, a_code, a_codeArg, a_endOf, a_elseOf, a_workKind, a_workBlock, a_workRest, a_openKind, a_openTarget, a_registers, a_lately, a_visitCount, a_labels)) : ∀ d k (a_dominating : Nat → Int32), k + d = 64 → (∀ b, b < 8 → a_dominating b = ms_k (gr_I L (gr_e wk A B) (7 * k) b)) → wX_findDominators_49 post f_known (ms_k L) f_ordered f_loopSet f_mergeSet f_written f_codeSize f_workCount f_openCount f_state f_outCount f_carriedCount f_labelCount (d + 1) (nI k) a_actKind a_actNumber a_wayKind a_wayA a_wayB a_dominating a_forward a_parent a_place a_code a_codeArg a_endOf a_elseOf a_workKind a_workBlock a_workRest a_openKind a_openTarget a_registers a_lately a_visitCount a_labels := by
  intro d
  induction d with
  | zero =>
    intro k dom hk hd
    have : k = 64 := by omega
    subst this
    exact br_t (nI_le (a := 64) (by omega) (by decide)) (hp dom hd)
  | succ d ih =>
    intro k dom hk hd
    exact br_f (nI_ge (b := 64) (by omega) (by decide)) ⟨8, xl_fd57 hw (fun dom' hd' => ih (k + 1) dom' (by omega) hd') 7 1 dom rfl (by omega) hd⟩
theorem xl_fd2 {post : SX → Prop} {L : Nat → Bool} (hw : wy_R wk A B a_wayKind a_wayA a_wayB) (hp : ∀ a_dominating : Nat → Int32, (∀ b, b < 8 → a_dominating b = ms_k (gr_I L (gr_e wk A B) 448 b)) → post (f_known, ms_k L, f_ordered, f_loopSet, f_mergeSet, f_written, f_codeSize, f_workCount, f_openCount, f_state, f_outCount, f_carriedCount, f_labelCount, a_actKind, a_actNumber, a_wayKind, a_wayA, a_wayB, a_dominating, a_forward, a_parent, a_place, a_code, a_codeArg, a_endOf, a_elseOf, a_workKind, a_workBlock, a_workRest, a_openKind, a_openTarget, a_registers, a_lately, a_visitCount, a_labels)) : ∀ d i (a_dominating : Nat → Int32), i + d = 8 → (∀ b, b < i → a_dominating b = ms_k (fun h => L b && L h)) → wX_findDominators_2 post f_known (ms_k L) f_ordered f_loopSet f_mergeSet f_written f_codeSize f_workCount f_openCount f_state f_outCount f_carriedCount f_labelCount (d + 1) (nI i) a_actKind a_actNumber a_wayKind a_wayA a_wayB a_dominating a_forward a_parent a_place a_code a_codeArg a_endOf a_elseOf a_workKind a_workBlock a_workRest a_openKind a_openTarget a_registers a_lately a_visitCount a_labels := by
  intro d
  induction d with
  | zero =>
    intro i dom hi hd
    have : i = 8 := by omega
    subst this
    refine br_t (xw_8e hi) (nm_e ⟨65, xl_fd49 hw hp 64 0 _ rfl fun b hb => ?_⟩)
    by_cases y : b = 0
    · subst y
      rw [pk_us, show vp_nar .short 1 = 1 from ms_vs' (n := 1) (by decide), ms_1]
      exact ms_ext fun h _ => rfl
    · rw [pk_un y, hd b hb]
      exact ms_ext fun h _ => (if_neg y).symm
  | succ d ih =>
    intro i dom hi hd
    have i8 : i < 8 := by omega
    have hc : (nI i).toNatClampNeg = i := nI_clamp (by omega)
    refine br_f (xw_8 hi) (xw_in i8 (fun z => ⟨vp_in_nI i8 (by decide), nm_e (nm_r (nI_1 i) (ih (i + 1) _ (by omega) fun b hb => ?_))⟩) (fun z => ⟨vp_in_nI i8 (by decide), nm_e (nm_r (nI_1 i) (ih (i + 1) _ (by omega) fun b hb => ?_))⟩))
    · rw [hc]
      by_cases y : b = i
      · subst y
        rw [pk_us, show vp_nar .short ((0 : Int32).toInt16.toInt32) = 0 from ms_vs (n := 0) (by decide)]
        exact (ms_eq0 fun h _ => by rw [z]; rfl).symm
      · rw [pk_un y, hd b (by omega)]
    · rw [hc]
      by_cases y : b = i
      · subst y
        rw [pk_us, ms_vk]
        exact ms_ext fun h _ => by rw [z]; rfl
      · rw [pk_un y, hd b (by omega)]
theorem xl_findDom {post : SX → Prop} {L : Nat → Bool} (hw : wy_R wk A B a_wayKind a_wayA a_wayB) (hp : ∀ a_dominating : Nat → Int32, (∀ b, b < 8 → a_dominating b = ms_k (gr_I L (gr_e wk A B) 448 b)) → post (f_known, ms_k L, f_ordered, f_loopSet, f_mergeSet, f_written, f_codeSize, f_workCount, f_openCount, f_state, f_outCount, f_carriedCount, f_labelCount, a_actKind, a_actNumber, a_wayKind, a_wayA, a_wayB, a_dominating, a_forward, a_parent, a_place, a_code, a_codeArg, a_endOf, a_elseOf, a_workKind, a_workBlock, a_workRest, a_openKind, a_openTarget, a_registers, a_lately, a_visitCount, a_labels)) : wpX_findDominators post (f_known, ms_k L, f_ordered, f_loopSet, f_mergeSet, f_written, f_codeSize, f_workCount, f_openCount, f_state, f_outCount, f_carriedCount, f_labelCount, a_actKind, a_actNumber, a_wayKind, a_wayA, a_wayB, a_dominating, a_forward, a_parent, a_place, a_code, a_codeArg, a_endOf, a_elseOf, a_workKind, a_workBlock, a_workRest, a_openKind, a_openTarget, a_registers, a_lately, a_visitCount, a_labels) :=
  ⟨9, xl_fd2 hw hp 8 0 a_dominating rfl fun b hb => by omega⟩
end
end
section
/-! places; and the whole of learn -/
section
variable {f_known f_liveSet f_ordered f_loopSet f_mergeSet f_written f_codeSize f_workCount f_openCount f_state f_outCount f_carriedCount f_labelCount : Int32} {a_actKind a_actNumber a_wayKind a_wayA a_wayB a_dominating a_forward a_parent a_place a_code a_codeArg a_endOf a_elseOf a_workKind a_workBlock a_workRest a_openKind a_openTarget a_registers a_lately a_visitCount a_labels : Nat → Int32}
variable {wk A B : Nat → Nat}
theorem xl_so17 {post : SX → Prop} {J9 : Int32 → Int32 → Int32 → (Nat → Int32) → (Nat → Int32) → (Nat → Int32) → (Nat → Int32) → (Nat → Int32) → (Nat → Int32) → (Nat → Int32) → (Nat → Int32) → (Nat → Int32) → (Nat → Int32) → (Nat → Int32) → (Nat → Int32) → (Nat → Int32) → (Nat → Int32) → (Nat → Int32) → (Nat → Int32) → (Nat → Int32) → (Nat → Int32) → (Nat → Int32) → (Nat → Int32) → (Nat → Int32) → (Nat → Int32) → Prop} {e : Nat → Nat → Bool} {k : Nat} (hf : ∀ a, a < 8 → a_forward a = ms_k (gr_F e a))
    (hJ : ∀ (T : Nat → Bool) (p : Nat → Nat) (o : Nat) (a_place : Nat → Int32), gr_O e T p o → gr_J e T (k + 1) 0 → (∀ b, b < 8 → T b = true → a_place b = nI (p b)) → J9 (ms_k T) (nI (k + 1)) (nI o) a_actKind a_actNumber a_wayKind a_wayA a_wayB a_dominating a_forward a_parent a_place a_code a_codeArg a_endOf a_elseOf a_workKind a_workBlock a_workRest a_openKind a_openTarget a_registers a_lately a_visitCount a_labels) :
    ∀ d i (T : Nat → Bool) (p : Nat → Nat) (o : Nat) (a_place : Nat → Int32), i + d = 8 → gr_O e T p o → gr_J e T k i → (∀ b, b < 8 → T b = true → a_place b = nI (p b)) → wX_sort_17 post J9 (nI k) f_known (ms_k (gr_L e)) f_loopSet f_mergeSet f_written f_codeSize f_workCount f_openCount f_state f_outCount f_carriedCount f_labelCount (d + 1) (ms_k T) (nI i) (nI o) a_actKind a_actNumber a_wayKind a_wayA a_wayB a_dominating a_forward a_parent a_place a_code a_codeArg a_endOf a_elseOf a_workKind a_workBlock a_workRest a_openKind a_openTarget a_registers a_lately a_visitCount a_labels := by
  intro d
  induction d with
  | zero =>
    intro i T p o pl hi hO hK hP
    have : i = 8 := by omega
    subst this
    exact br_t (xw_8e hi) (nm_r (nI_1 k) (hJ T p o pl hO (gr_J_end hK) hP))
  | succ d ih =>
    intro i T p o pl hi hO hK hP
    have i8 : i < 8 := by omega
    have hc : (nI i).toNatClampNeg = i := nI_clamp (by omega)
    have o8 : o ≤ 8 := by rw [hO.1]; exact gr_c_le T 8
    refine br_f (xw_8 hi) (xw_in i8 (fun z => nm_r (nI_1 i) (ih (i + 1) T p o pl (by omega) hO (gr_J_no hK fun y => ?_) hP)) (fun z => xw_in i8 (fun y => xw_before i8 hf ?_) (fun y => nm_r (nI_1 i) (ih (i + 1) T p o pl (by omega) hO (gr_J_no hK fun _ w => ?_) hP))))
    · rw [z] at y; cases y
    · rw [ms_andn]
      refine br_c (fun w => ?_) (fun w => ?_)
      · have all : ∀ a, a < 8 → gr_F e a i = true → T a = true := fun a ha hF => by
          have := ms_all0 w a ha
          rw [hF] at this
          simpa using this
        refine ⟨vp_in_nI i8 (by decide), nm_e (nm_r (nI_1 o) (nm_r (e' := ms_k (fun j => T j || (j == i))) (by rw [ms_bit i8, ms_or]) (nm_r (nI_1 i) (ih (i + 1) _ (gr_pu p i o) (o + 1) _ (by omega) (gr_O_add hO i8 z y all) (gr_J_add hK i8 z y all) fun b hb hT => ?_))))⟩
        rw [hc]
        by_cases q : b = i
        · subst q
          rw [pk_us, ms_vb (by omega)]
          exact congrArg nI (if_pos rfl).symm
        · rw [pk_un q, hP b hb (by simpa [q] using hT)]
          exact congrArg nI (if_neg q).symm
      · refine nm_r (nI_1 i) (ih (i + 1) T p o pl (by omega) hO (gr_J_no hK fun _ _ => ?_) hP)
        refine Classical.byContradiction fun N => w (ms_eq0 fun a ha => ?_)
        cases hF : gr_F e a i with
        | false => rfl
        | true =>
          cases hT : T a with
          | true => rfl
          | false => exact absurd ⟨a, ha, hF, hT⟩ N
    · rw [y] at w; cases w
theorem xl_so9 {post : SX → Prop} {e : Nat → Nat → Bool} (hf : ∀ a, a < 8 → a_forward a = ms_k (gr_F e a))
    (hp : ∀ (T : Nat → Bool) (p : Nat → Nat) (o : Nat) (a_place : Nat → Int32), gr_O e T p o → gr_J e T 8 0 → (∀ b, b < 8 → T b = true → a_place b = nI (p b)) → post (f_known, ms_k (gr_L e), nI o, f_loopSet, f_mergeSet, f_written, f_codeSize, f_workCount, f_openCount, f_state, f_outCount, f_carriedCount, f_labelCount, a_actKind, a_actNumber, a_wayKind, a_wayA, a_wayB, a_dominating, a_forward, a_parent, a_place, a_code, a_codeArg, a_endOf, a_elseOf, a_workKind, a_workBlock, a_workRest, a_openKind, a_openTarget, a_registers, a_lately, a_visitCount, a_labels)) :
    ∀ d k (T : Nat → Bool) (p : Nat → Nat) (o : Nat) (a_place : Nat → Int32), k + d = 8 → gr_O e T p o → gr_J e T k 0 → (∀ b, b < 8 → T b = true → a_place b = nI (p b)) → wX_sort_9 post f_known (ms_k (gr_L e)) f_loopSet f_mergeSet f_written f_codeSize f_workCount f_openCount f_state f_outCount f_carriedCount f_labelCount (d + 1) (ms_k T) (nI k) (nI o) a_actKind a_actNumber a_wayKind a_wayA a_wayB a_dominating a_forward a_parent a_place a_code a_codeArg a_endOf a_elseOf a_workKind a_workBlock a_workRest a_openKind a_openTarget a_registers a_lately a_visitCount a_labels := by
  intro d
  induction d with
  | zero =>
    intro k T p o pl hk hO hK hP
    have : k = 8 := by omega
    subst this
    exact br_t (xw_8e hk) (hp T p o pl hO hK hP)
  | succ d ih =>
    intro k T p o pl hk hO hK hP
    exact br_f (xw_8 hk) ⟨9, xl_so17 hf (fun T' p' o' pl' h1 h2 h3 => ih (k + 1) T' p' o' pl' (by omega) h1 h2 h3) 8 0 T p o pl rfl hO hK hP⟩
theorem xl_sort {post : SX → Prop} {e : Nat → Nat → Bool} (hf : ∀ a, a < 8 → a_forward a = ms_k (gr_F e a))
    (hp : ∀ (T : Nat → Bool) (p : Nat → Nat) (o : Nat) (a_place : Nat → Int32), gr_O e T p o → gr_J e T 8 0 → (∀ b, b < 8 → T b = true → a_place b = nI (p b)) → post (f_known, ms_k (gr_L e), nI o, f_loopSet, f_mergeSet, f_written, f_codeSize, f_workCount, f_openCount, f_state, f_outCount, f_carriedCount, f_labelCount, a_actKind, a_actNumber, a_wayKind, a_wayA, a_wayB, a_dominating, a_forward, a_parent, a_place, a_code, a_codeArg, a_endOf, a_elseOf, a_workKind, a_workBlock, a_workRest, a_openKind, a_openTarget, a_registers, a_lately, a_visitCount, a_labels)) : wpX_sort post (f_known, ms_k (gr_L e), f_ordered, f_loopSet, f_mergeSet, f_written, f_codeSize, f_workCount, f_openCount, f_state, f_outCount, f_carriedCount, f_labelCount, a_actKind, a_actNumber, a_wayKind, a_wayA, a_wayB, a_dominating, a_forward, a_parent, a_place, a_code, a_codeArg, a_endOf, a_elseOf, a_workKind, a_workBlock, a_workRest, a_openKind, a_openTarget, a_registers, a_lately, a_visitCount, a_labels) := by
  refine ⟨9, ?_⟩
  have := xl_so9 (post := post) hf hp 8 0 (fun _ => false) (fun _ => 0) 0 a_place rfl (gr_O_0 e _) (gr_J_0 e _) (fun b _ h => (Bool.false_ne_true h).elim)
  rw [← ms_0] at this
  exact this
/-- what is known of the blocks -/
def ln_K (e : Nat → Nat → Bool) (f_liveSet f_ordered f_loopSet f_mergeSet : Int32) (a_dominating a_forward a_parent a_place : Nat → Int32) : Prop :=
  f_liveSet = ms_k (gr_L e) ∧ f_loopSet = ms_k (gr_H e) ∧ f_mergeSet = ms_k (gr_M e) ∧ (∀ b, b < 8 → a_dominating b = ms_k (gr_D e b)) ∧ (∀ b, b < 8 → a_forward b = ms_k (gr_F e b)) ∧ (∀ b, b < 8 → xw_N (gr_D e) b 8 (a_parent b)) ∧ ∃ (T : Nat → Bool) (p : Nat → Nat) (o : Nat), gr_O e T p o ∧ gr_J e T 8 0 ∧ f_ordered = nI o ∧ (∀ b, b < 8 → T b = true → a_place b = nI (p b))
theorem xl_le107 {post : SX → Prop} {e : Nat → Nat → Bool} (hd : ∀ b, b < 8 → a_dominating b = ms_k (gr_D e b)) (hf : ∀ b, b < 8 → a_forward b = ms_k (gr_F e b))
    (hp : ∀ (f_ordered : Int32) (a_parent a_place : Nat → Int32), ln_K e (ms_k (gr_L e)) f_ordered (ms_k (gr_H e)) (ms_k (gr_M e)) a_dominating a_forward a_parent a_place → post (f_known, ms_k (gr_L e), f_ordered, ms_k (gr_H e), ms_k (gr_M e), f_written, f_codeSize, f_workCount, f_openCount, f_state, f_outCount, f_carriedCount, f_labelCount, a_actKind, a_actNumber, a_wayKind, a_wayA, a_wayB, a_dominating, a_forward, a_parent, a_place, a_code, a_codeArg, a_endOf, a_elseOf, a_workKind, a_workBlock, a_workRest, a_openKind, a_openTarget, a_registers, a_lately, a_visitCount, a_labels)) :
    ∀ d i (a_parent : Nat → Int32), i + d = 8 → (∀ b, b < i → xw_N (gr_D e) b 8 (a_parent b)) → wX_learn_107 post f_known (ms_k (gr_L e)) f_ordered (ms_k (gr_H e)) f_written f_codeSize f_workCount f_openCount f_state f_outCount f_carriedCount f_labelCount (d + 1) (nI i) (ms_k (fun c => decide (c < i) && gr_M e c)) a_actKind a_actNumber a_wayKind a_wayA a_wayB a_dominating a_forward a_parent a_place a_code a_codeArg a_endOf a_elseOf a_workKind a_workBlock a_workRest a_openKind a_openTarget a_registers a_lately a_visitCount a_labels := by
  intro d
  induction d with
  | zero =>
    intro i pa hi hN
    have : i = 8 := by omega
    subst this
    refine br_t (xw_8e hi) ?_
    rw [ms_ext (T := gr_M e) fun c hc => show (decide (c < 8) && gr_M e c) = _ by rw [decide_eq_true hc]; rfl]
    exact xl_sort hf fun T p o pl h1 h2 h3 => hp _ pa pl ⟨rfl, rfl, rfl, hd, hf, hN, T, p, o, h1, h2, rfl, h3⟩
  | succ d ih =>
    intro i pa hi hN
    have i8 : i < 8 := by omega
    have hc : (nI i).toNatClampNeg = i := nI_clamp (by omega)
    have stp : ∀ (v : Bool), gr_M e i = v → ms_k (fun c => decide (c < i) && gr_M e c) ||| ms_k (fun c => v && (c == i)) = ms_k (fun c => decide (c < i + 1) && gr_M e c) := fun v hv => by
      rw [ms_or]
      refine ms_ext fun c _ => ?_
      show ((decide (c < i) && gr_M e c) || (v && (c == i))) = (decide (c < i + 1) && gr_M e c)
      by_cases q : c = i
      · subst q; rw [hv]; simp
      · rw [show decide (c < i + 1) = decide (c < i) from decide_eq_decide.mpr (by omega), show (c == i) = false by simpa using q]; simp
    have last : ∀ (z0 : Int32) (v : Bool), gr_M e i = v → z0 = ms_k (fun c => v && (c == i)) → wX_learn_139 post (wX_learn_107 post f_known (ms_k (gr_L e)) f_ordered (ms_k (gr_H e)) f_written f_codeSize f_workCount f_openCount f_state f_outCount f_carriedCount f_labelCount (d + 1)) (nI i) z0 (ms_k (fun c => decide (c < i) && gr_M e c)) f_known (ms_k (gr_L e)) f_ordered (ms_k (gr_H e)) (ms_k (fun c => decide (c < i) && gr_M e c)) f_written f_codeSize f_workCount f_openCount f_state f_outCount f_carriedCount f_labelCount a_actKind a_actNumber a_wayKind a_wayA a_wayB a_dominating a_forward pa a_place a_code a_codeArg a_endOf a_elseOf a_workKind a_workBlock a_workRest a_openKind a_openTarget a_registers a_lately a_visitCount a_labels := by
      intro z0 v hv hz
      unfold wX_learn_139
      refine nm_r (by rw [hz]; exact stp v hv) (xw_near i8 hd fun r hr => ⟨vp_in_nI i8 (by decide), nm_e (nm_r (nI_1 i) (ih (i + 1) _ (by omega) fun b hb => ?_))⟩)
      rw [hc]
      by_cases q : b = i
      · subst q
        rw [pk_us]
        rcases hr with ⟨h1, h2⟩ | ⟨q, h1, h2, h3⟩
        · rw [h1, ms_vm1]; exact Or.inl ⟨rfl, h2⟩
        · rw [h2, ms_vb (by omega)]; exact Or.inr ⟨q, h1, rfl, h3⟩
      · rw [pk_un q]; exact hN b (by omega)
    have l1 := gr_c_le (fun a => gr_F e a i) 8
    refine br_f (xw_8 hi) (xw_before i8 hf (xw_size (pk_le (gr_c (fun a => gr_F e a i) 8) 1 (fun w => last _ false ?_ ?_) (fun w => last _ true ?_ ?_))))
    · unfold gr_M; exact decide_eq_false (by omega)
    · exact (ms_eq0 fun c _ => rfl).symm
    · unfold gr_M; exact decide_eq_true (by omega)
    · rw [ms_bit i8]; exact ms_ext fun c _ => rfl
theorem xl_le38 {post : SX → Prop} (hw : wy_R wk A B a_wayKind a_wayA a_wayB) (hd : ∀ b, b < 8 → a_dominating b = ms_k (gr_D (gr_e wk A B) b))
    (hp : ∀ (f_ordered : Int32) (a_forward a_parent a_place : Nat → Int32), ln_K (gr_e wk A B) (ms_k (gr_L (gr_e wk A B))) f_ordered (ms_k (gr_H (gr_e wk A B))) (ms_k (gr_M (gr_e wk A B))) a_dominating a_forward a_parent a_place → post (f_known, ms_k (gr_L (gr_e wk A B)), f_ordered, ms_k (gr_H (gr_e wk A B)), ms_k (gr_M (gr_e wk A B)), f_written, f_codeSize, f_workCount, f_openCount, f_state, f_outCount, f_carriedCount, f_labelCount, a_actKind, a_actNumber, a_wayKind, a_wayA, a_wayB, a_dominating, a_forward, a_parent, a_place, a_code, a_codeArg, a_endOf, a_elseOf, a_workKind, a_workBlock, a_workRest, a_openKind, a_openTarget, a_registers, a_lately, a_visitCount, a_labels)) :
    ∀ d i (a_forward : Nat → Int32), i + d = 8 → (∀ b, b < i → a_forward b = ms_k (gr_F (gr_e wk A B) b)) → wX_learn_38 post f_known (ms_k (gr_L (gr_e wk A B))) f_ordered 0 f_written f_codeSize f_workCount f_openCount f_state f_outCount f_carriedCount f_labelCount (d + 1) (nI i) (ms_k (fun c => gr_x (fun a => gr_B (gr_e wk A B) a c) i)) a_actKind a_actNumber a_wayKind a_wayA a_wayB a_dominating a_forward a_parent a_place a_code a_codeArg a_endOf a_elseOf a_workKind a_workBlock a_workRest a_openKind a_openTarget a_registers a_lately a_visitCount a_labels := by
  intro d
  induction d with
  | zero =>
    intro i fo hi hF
    have : i = 8 := by omega
    subst this
    refine br_t (xw_8e hi) ⟨9, ?_⟩
    have := xl_le107 (post := post) (a_place := a_place) (f_known := f_known) (f_ordered := f_ordered) (e := gr_e wk A B) hd hF (fun o pa pl h => hp o fo pa pl h) 8 0 a_parent rfl (fun b hb => by omega)
    rw [ms_eq0 (S := fun c => decide (c < 0) && gr_M (gr_e wk A B) c) fun c _ => by simp] at this
    exact this
  | succ d ih =>
    intro i fo hi hF
    have i8 : i < 8 := by omega
    have hc : (nI i).toNatClampNeg = i := nI_clamp (by omega)
    have last : ∀ z0 : Int32, z0 = ms_k (fun c => gr_L (gr_e wk A B) i && gr_e wk A B i c) → wX_learn_64 post (wX_learn_38 post f_known (ms_k (gr_L (gr_e wk A B))) f_ordered 0 f_written f_codeSize f_workCount f_openCount f_state f_outCount f_carriedCount f_labelCount (d + 1)) (nI i) z0 f_known (ms_k (gr_L (gr_e wk A B))) f_ordered (ms_k (fun c => gr_x (fun a => gr_B (gr_e wk A B) a c) i)) 0 f_written f_codeSize f_workCount f_openCount f_state f_outCount f_carriedCount f_labelCount a_actKind a_actNumber a_wayKind a_wayA a_wayB a_dominating fo a_parent a_place a_code a_codeArg a_endOf a_elseOf a_workKind a_workBlock a_workRest a_openKind a_openTarget a_registers a_lately a_visitCount a_labels := by
      intro z0 hz
      subst hz
      unfold wX_learn_64
      have hin := vp_in_nI (N := 8) i8 (by decide)
      rw [hc, hd i i8]
      refine ⟨hin, nm_r (e' := ms_k (fun c => gr_x (fun a => gr_B (gr_e wk A B) a c) (i + 1))) ?_ ⟨hin, hin, nm_e (nm_r (nI_1 i) (ih (i + 1) _ (by omega) fun b hb => ?_))⟩⟩
      · rw [ms_and, ms_or]; exact ms_ext fun c _ => rfl
      · by_cases q : b = i
        · subst q
          rw [pk_us, ms_andn, ms_vk]
          exact ms_ext fun c _ => rfl
        · rw [pk_un q]; exact hF b (by omega)
    refine br_f (xw_8 hi) (xw_in i8 (fun z => last _ ?_) (fun z => xw_next hw i8 (last _ ?_)))
    · exact (ms_eq0 fun c _ => by rw [z]; rfl).symm
    · exact ms_ext fun c _ => by rw [z]; rfl
theorem xl_learn {post : SX → Prop} (hw : wy_R wk A B a_wayKind a_wayA a_wayB) (h1 : ¬ f_known = 0 → post (f_known, f_liveSet, f_ordered, f_loopSet, f_mergeSet, f_written, f_codeSize, f_workCount, f_openCount, f_state, f_outCount, f_carriedCount, f_labelCount, a_actKind, a_actNumber, a_wayKind, a_wayA, a_wayB, a_dominating, a_forward, a_parent, a_place, a_code, a_codeArg, a_endOf, a_elseOf, a_workKind, a_workBlock, a_workRest, a_openKind, a_openTarget, a_registers, a_lately, a_visitCount, a_labels))
    (h0 : ∀ (f_liveSet f_ordered f_loopSet f_mergeSet : Int32) (a_dominating a_forward a_parent a_place : Nat → Int32), ln_K (gr_e wk A B) f_liveSet f_ordered f_loopSet f_mergeSet a_dominating a_forward a_parent a_place → post (1, f_liveSet, f_ordered, f_loopSet, f_mergeSet, 0, f_codeSize, f_workCount, f_openCount, f_state, f_outCount, f_carriedCount, f_labelCount, a_actKind, a_actNumber, a_wayKind, a_wayA, a_wayB, a_dominating, a_forward, a_parent, a_place, a_code, a_codeArg, a_endOf, a_elseOf, a_workKind, a_workBlock, a_workRest, a_openKind, a_openTarget, a_registers, a_lately, a_visitCount, a_labels)) : wpX_learn post (f_known, f_liveSet, f_ordered, f_loopSet, f_mergeSet, f_written, f_codeSize, f_workCount, f_openCount, f_state, f_outCount, f_carriedCount, f_labelCount, a_actKind, a_actNumber, a_wayKind, a_wayA, a_wayB, a_dominating, a_forward, a_parent, a_place, a_code, a_codeArg, a_endOf, a_elseOf, a_workKind, a_workBlock, a_workRest, a_openKind, a_openTarget, a_registers, a_lately, a_visitCount, a_labels) := by
  refine br_c (fun _ => xl_findLive hw (xl_findDom hw fun dom hd => ⟨9, ?_⟩)) h1
  have hd' : ∀ b, b < 8 → dom b = ms_k (gr_D (gr_e wk A B) b) := fun b hb => (hd b hb).trans (ms_ext fun h hh => gr_I_D hb hh)
  have := xl_le38 (post := post) (a_parent := a_parent) (a_place := a_place) (f_known := 1) (f_written := 0) (f_ordered := f_ordered) hw hd' (fun o fo pa pl h => h0 _ o _ _ dom fo pa pl h) 8 0 a_forward rfl (fun b hb => by omega)
  rw [ms_eq0 (S := fun c => gr_x (fun a => gr_B (gr_e wk A B) a c) 0) fun c _ => rfl] at this
  exact this
end
end
section
/-! the reference: reaching, dominating, forward and back edges, rings, loops, merges -/
section
variable {f_came f_said f_done : Int32} {a_acts a_numbers a_ways a_first a_second a_over a_reg a_last a_often : Nat → Int32}
variable {wk A B : Nat → Nat}
theorem yw_blk {post : Int32 → Prop} {b : Nat} (hb : b < 8) (h : post 1) : wpY_block post (f_came, f_said, f_done, a_acts, a_numbers, a_ways, a_first, a_second, a_over, a_reg, a_last, a_often) (nI b) :=
  br_f (nI_pos (by omega)) (pk_lt 7 b (fun z => by omega) (fun _ => h))
theorem yw_nblk {post : Int32 → Prop} {x : Int32} (hx : x < 0 ∨ nI 8 ≤ x) (h : post 0) : wpY_block post (f_came, f_said, f_done, a_acts, a_numbers, a_ways, a_first, a_second, a_over, a_reg, a_last, a_often) x := by
  rcases hx with hx | hx
  · exact br_t hx h
  · refine br_c (fun _ => h) fun _ => br_t ?_ h
    rw [Int32.lt_iff_toInt_lt]
    rw [Int32.le_iff_toInt_le] at hx
    have e8 : (nI 8).toInt = 8 := nI_toInt (by decide)
    have e7 : (7 : Int32).toInt = 7 := by decide
    omega
theorem yw_named {post : Int32 → Prop} (hw : wy_R wk A B a_ways a_first a_second) {b : Nat} (hb : b < 8) (hp : post (ms_k (gr_e wk A B b))) : wpY_named post (f_came, f_said, f_done, a_acts, a_numbers, a_ways, a_first, a_second, a_over, a_reg, a_last, a_often) (nI b) := by
  obtain ⟨h1, h2, h3, h4, h5, h6⟩ := hw b hb
  have hc : (nI b).toNatClampNeg = b := nI_clamp (by omega)
  have hi : vp_in (nI b) 8 := vp_in_nI hb (by decide)
  unfold wpY_named
  dsimp only
  rw [hc, h1, h2, h3]
  refine ⟨hi, pk_eq (wk b) 0 (fun z => ?_) (fun z => ⟨hi, pk_eq (wk b) 1 (fun y => ⟨hi, ?_⟩) (fun y => ⟨hi, hi, ?_⟩)⟩)⟩
  · rw [ms_eq0 (S := gr_e wk A B b) fun i _ => if_pos z] at hp; exact hp
  · rw [ms_bit h5, ms_ext (T := gr_e wk A B b) fun i _ => ?_]
    · exact hp
    · show _ = gr_e wk A B b i
      unfold gr_e
      rw [if_neg z, if_pos y]
  · rw [ms_bit h5, ms_bit h6, ms_or, ms_ext (T := gr_e wk A B b) fun i _ => ?_]
    · exact hp
    · show _ = gr_e wk A B b i
      unfold gr_e
      rw [if_neg z, if_neg y]
/-- the block not to be come to -/
def yw_h (x : Int32) (h : Nat) : Prop := (x = nI h ∧ h < 8) ∨ (x = -1 ∧ h = 8)
theorem yw_re21 {post : Int32 → Prop} {J12 : Int32 → Int32 → Prop} {x : Int32} {h k : Nat} (hx : yw_h x h) (hw : wy_R wk A B a_ways a_first a_second) (hJ : J12 (ms_k (gr_s (gr_e wk A B) h (8 * (k + 1)))) (nI (k + 1))) : ∀ d i, i + d = 8 → wY_reached_21 post J12 x (nI k) f_came f_said f_done a_acts a_numbers a_ways a_first a_second a_over a_reg a_last a_often (d + 1) (ms_k (gr_s (gr_e wk A B) h (8 * k + i))) (nI i) := by
  intro d
  induction d with
  | zero =>
    intro i hi
    have : i = 8 := by omega
    subst this
    exact br_t (xw_8e hi) (nm_r (nI_1 k) hJ)
  | succ d ih =>
    intro i hi
    have i8 : i < 8 := by omega
    have next := ih (i + 1) (by omega)
    have m8 : (8 * k + i) % 8 = i := by omega
    have st : ∀ c, gr_s (gr_e wk A B) h (8 * k + (i + 1)) c = ((gr_s (gr_e wk A B) h (8 * k + i) c || (gr_s (gr_e wk A B) h (8 * k + i) i && gr_e wk A B i c)) && !(c == h)) := fun c => by
      show ((gr_s (gr_e wk A B) h (8 * k + i) c || (gr_s (gr_e wk A B) h (8 * k + i) ((8 * k + i) % 8) && gr_e wk A B ((8 * k + i) % 8) c)) && !(c == h)) = _
      rw [m8]
    have last : ∀ z0 : Int32, z0 = ms_k (fun c => gr_s (gr_e wk A B) h (8 * k + i) c || (gr_s (gr_e wk A B) h (8 * k + i) i && gr_e wk A B i c)) → wY_reached_50 post J12 (wY_reached_21 post J12 x (nI k) f_came f_said f_done a_acts a_numbers a_ways a_first a_second a_over a_reg a_last a_often (d + 1)) x (nI k) (nI i) z0 f_came f_said f_done a_acts a_numbers a_ways a_first a_second a_over a_reg a_last a_often := by
      intro z0 hz
      subst hz
      rcases hx with ⟨hx, h8⟩ | ⟨hx, h8⟩
      · subst hx
        refine br_f (nI_pos (by omega)) (nm_r (e' := ms_k (gr_s (gr_e wk A B) h (8 * k + (i + 1)))) ?_ (nm_r (nI_1 i) next))
        rw [ms_bit h8, ms_andn]
        exact ms_ext fun c _ => (st c).symm
      · subst hx
        refine br_t (by decide) (nm_r (nI_1 i) ?_)
        rw [ms_ext (T := gr_s (gr_e wk A B) h (8 * k + (i + 1))) fun c hc => ?_]
        · exact next
        · rw [st c, show (c == h) = false by simpa using (by omega : ¬ c = h)]; simp
    refine br_f (xw_8 hi) (br_c (fun z => ?_) (fun z => ?_))
    · have z := (ms_get1 _ i8).mp z
      refine yw_named hw i8 (last _ ?_)
      rw [ms_or]
      exact ms_ext fun c _ => by rw [z]; rfl
    · have z : gr_s (gr_e wk A B) h (8 * k + i) i = false := gr_nb fun y => z ((ms_get1 _ i8).mpr y)
      exact last _ (ms_ext fun c _ => by rw [z]; simp)
theorem yw_re12 {post : Int32 → Prop} {x : Int32} {h : Nat} (hx : yw_h x h) (hw : wy_R wk A B a_ways a_first a_second) (hp : post (ms_k (gr_R (gr_e wk A B) h))) : ∀ d k, k + d = 8 → wY_reached_12 post x f_came f_said f_done a_acts a_numbers a_ways a_first a_second a_over a_reg a_last a_often (d + 1) (ms_k (gr_s (gr_e wk A B) h (8 * k))) (nI k) := by
  intro d
  induction d with
  | zero =>
    intro k hk
    have : k = 8 := by omega
    subst this
    exact br_t (xw_8e hk) hp
  | succ d ih =>
    intro k hk
    exact br_f (xw_8 hk) ⟨9, yw_re21 hx hw (ih (k + 1) (by omega)) 8 0 rfl⟩
theorem yw_reached {post : Int32 → Prop} {x : Int32} {h : Nat} (hx : yw_h x h) (hw : wy_R wk A B a_ways a_first a_second) (hp : post (ms_k (gr_R (gr_e wk A B) h))) : wpY_reached post (f_came, f_said, f_done, a_acts, a_numbers, a_ways, a_first, a_second, a_over, a_reg, a_last, a_often) x := by
  have main := yw_re12 (f_came := f_came) (f_said := f_said) (f_done := f_done) (a_acts := a_acts) (a_numbers := a_numbers) (a_over := a_over) (a_reg := a_reg) (a_last := a_last) (a_often := a_often) hx hw hp 8 0 rfl
  have z0 : ∀ c, gr_s (gr_e wk A B) h (8 * 0) c = ((c == 0) && !(h == 0)) := fun c => rfl
  rcases hx with ⟨hx, h8⟩ | ⟨hx, h8⟩
  · subst hx
    refine pk_eq h 0 (fun z => ⟨9, ?_⟩) (fun z => ⟨9, ?_⟩)
    · rw [ms_eq0 (S := gr_s (gr_e wk A B) h (8 * 0)) fun c _ => by rw [z0, z]; simp] at main
      exact main
    · rw [show ms_k (gr_s (gr_e wk A B) h (8 * 0)) = 1 from by
        rw [ms_1]
        exact ms_ext fun c _ => by rw [z0, show (h == 0) = false by simpa using z]; simp] at main
      exact main
  · subst hx
    refine br_f (by decide) ⟨9, ?_⟩
    rw [show ms_k (gr_s (gr_e wk A B) h (8 * 0)) = 1 from by
      rw [ms_1]
      exact ms_ext fun c _ => by rw [z0, show (h == 0) = false by simpa using (by omega : ¬ h = 0)]; simp] at main
    exact main
theorem yw_live {post : Int32 → Prop} (hw : wy_R wk A B a_ways a_first a_second) (hp : post (ms_k (gr_L (gr_e wk A B)))) : wpY_live post (f_came, f_said, f_done, a_acts, a_numbers, a_ways, a_first, a_second, a_over, a_reg, a_last, a_often) :=
  yw_reached (Or.inr ⟨rfl, rfl⟩) hw hp
theorem yw_do10 {post : Int32 → Prop} {b : Nat} (hb : b < 8) (hw : wy_R wk A B a_ways a_first a_second) (hp : post (ms_k (gr_D (gr_e wk A B) b))) : ∀ d i, i + d = 8 → wY_dominators_10 post (nI b) (ms_k (gr_L (gr_e wk A B))) f_came f_said f_done a_acts a_numbers a_ways a_first a_second a_over a_reg a_last a_often (d + 1) (ms_k (fun h => decide (h < i) && gr_D (gr_e wk A B) b h)) (nI i) := by
  intro d
  induction d with
  | zero =>
    intro i hi
    have : i = 8 := by omega
    subst this
    refine br_t (xw_8e hi) ?_
    rw [ms_ext (T := gr_D (gr_e wk A B) b) fun c hc => show (decide (c < 8) && gr_D (gr_e wk A B) b c) = _ by rw [decide_eq_true hc]; rfl]
    exact hp
  | succ d ih =>
    intro i hi
    have i8 : i < 8 := by omega
    have next := ih (i + 1) (by omega)
    have stp : ∀ (v : Bool), gr_D (gr_e wk A B) b i = v → ∀ c, ((decide (c < i) && gr_D (gr_e wk A B) b c) || (v && (c == i))) = (decide (c < i + 1) && gr_D (gr_e wk A B) b c) := fun v hv c => by
      by_cases q : c = i
      · subst q; rw [hv]; simp
      · rw [show decide (c < i + 1) = decide (c < i) from decide_eq_decide.mpr (by omega), show (c == i) = false by simpa using q]; simp
    have no : gr_D (gr_e wk A B) b i = false → wY_dominators_61 post (wY_dominators_10 post (nI b) (ms_k (gr_L (gr_e wk A B))) f_came f_said f_done a_acts a_numbers a_ways a_first a_second a_over a_reg a_last a_often (d + 1)) (nI b) (ms_k (gr_L (gr_e wk A B))) (ms_k (fun h => decide (h < i) && gr_D (gr_e wk A B) b h)) (nI i) f_came f_said f_done a_acts a_numbers a_ways a_first a_second a_over a_reg a_last a_often := by
      intro v
      unfold wY_dominators_61 wY_dominators_62
      refine br_t rfl (nm_r (nI_1 i) ?_)
      rw [ms_ext (S := fun h => decide (h < i) && gr_D (gr_e wk A B) b h) (T := fun h => decide (h < i + 1) && gr_D (gr_e wk A B) b h) fun c _ => ?_]
      · exact next
      · rw [← stp false v c]; simp
    have yes : gr_D (gr_e wk A B) b i = true → wY_dominators_62 post (wY_dominators_10 post (nI b) (ms_k (gr_L (gr_e wk A B))) f_came f_said f_done a_acts a_numbers a_ways a_first a_second a_over a_reg a_last a_often (d + 1)) (nI b) (ms_k (gr_L (gr_e wk A B))) (ms_k (fun h => decide (h < i) && gr_D (gr_e wk A B) b h)) (nI i) 1 f_came f_said f_done a_acts a_numbers a_ways a_first a_second a_over a_reg a_last a_often := by
      intro v
      unfold wY_dominators_62
      refine br_f (by decide) (nm_r (e' := ms_k (fun h => decide (h < i + 1) && gr_D (gr_e wk A B) b h)) ?_ (nm_r (nI_1 i) next))
      rw [ms_bit i8, ms_or]
      exact ms_ext fun c _ => by rw [← stp true v c]; simp
    have dn : ∀ P : Prop, (gr_D (gr_e wk A B) b i = true → P) → ¬ P → gr_D (gr_e wk A B) b i = false := fun P h1 h2 => gr_nb fun z => h2 (h1 z)
    refine br_f (xw_8 hi) (yw_blk hb (br_f (by decide) (br_c (fun z => br_c (fun y => ?_) (fun y => no ?_)) (fun z => no ?_))))
    · have z := (ms_get1 _ hb).mp z
      have y := (ms_get1 _ i8).mp y
      refine yw_reached (Or.inl ⟨rfl, i8⟩) hw (br_c (fun w => yes ?_) (fun w => no ?_))
      · exact gr_D_i.mpr ⟨z, y, (ms_get0 _ hb).mp w⟩
      · exact dn _ (fun v => (gr_D_i.mp v).2.2) fun v => w ((ms_get0 _ hb).mpr v)
    · exact dn _ (fun v => (gr_D_i.mp v).2.1) fun v => y ((ms_get1 _ i8).mpr v)
    · exact dn _ (fun v => (gr_D_i.mp v).1) fun v => z ((ms_get1 _ hb).mpr v)
theorem yw_dom {post : Int32 → Prop} {b : Nat} (hb : b < 8) (hw : wy_R wk A B a_ways a_first a_second) (hp : post (ms_k (gr_D (gr_e wk A B) b))) : wpY_dominators post (f_came, f_said, f_done, a_acts, a_numbers, a_ways, a_first, a_second, a_over, a_reg, a_last, a_often) (nI b) := by
  refine yw_live hw ⟨9, ?_⟩
  have := yw_do10 (f_came := f_came) (f_said := f_said) (f_done := f_done) (a_acts := a_acts) (a_numbers := a_numbers) (a_over := a_over) (a_reg := a_reg) (a_last := a_last) (a_often := a_often) hb hw hp 8 0 rfl
  rw [ms_eq0 (S := fun h => decide (h < 0) && gr_D (gr_e wk A B) b h) fun c _ => by simp] at this
  exact this
theorem yw_ndom {post : Int32 → Prop} {x : Int32} (hx : x < 0 ∨ nI 8 ≤ x) (hw : wy_R wk A B a_ways a_first a_second) (hp : post 0) : wpY_dominators post (f_came, f_said, f_done, a_acts, a_numbers, a_ways, a_first, a_second, a_over, a_reg, a_last, a_often) x :=
  yw_live hw ⟨1, br_f (by decide) (yw_nblk hx (br_t rfl hp))⟩
theorem yw_fo2 {post : SY → Prop} (hw : wy_R wk A B a_ways a_first a_second) (hp : ∀ a_over : Nat → Int32, (∀ b, b < 8 → a_over b = ms_k (gr_D (gr_e wk A B) b)) → post (f_came, f_said, f_done, a_acts, a_numbers, a_ways, a_first, a_second, a_over, a_reg, a_last, a_often)) : ∀ d i (a_over : Nat → Int32), i + d = 8 → (∀ b, b < i → a_over b = ms_k (gr_D (gr_e wk A B) b)) → wY_findOver_2 post f_came f_said f_done (d + 1) (nI i) a_acts a_numbers a_ways a_first a_second a_over a_reg a_last a_often := by
  intro d
  induction d with
  | zero =>
    intro i ov hi ho
    have : i = 8 := by omega
    subst this
    exact br_t (xw_8e hi) (hp ov ho)
  | succ d ih =>
    intro i ov hi ho
    have i8 : i < 8 := by omega
    have hc : (nI i).toNatClampNeg = i := nI_clamp (by omega)
    refine br_f (xw_8 hi) (yw_dom i8 hw ⟨vp_in_nI i8 (by decide), nm_e (nm_r (nI_1 i) (ih (i + 1) _ (by omega) fun b hb => ?_))⟩)
    rw [hc]
    by_cases q : b = i
    · subst q; rw [pk_us]
    · rw [pk_un q]; exact ho b (by omega)
theorem yw_over {post : SY → Prop} (hw : wy_R wk A B a_ways a_first a_second) (hp : ∀ a_over : Nat → Int32, (∀ b, b < 8 → a_over b = ms_k (gr_D (gr_e wk A B) b)) → post (f_came, f_said, f_done, a_acts, a_numbers, a_ways, a_first, a_second, a_over, a_reg, a_last, a_often)) : wpY_findOver post (f_came, f_said, f_done, a_acts, a_numbers, a_ways, a_first, a_second, a_over, a_reg, a_last, a_often) :=
  ⟨9, yw_fo2 hw hp 8 0 a_over rfl fun b hb => by omega⟩
theorem yw_ends0 {post : Int32 → Prop} (hw : wy_R wk A B a_ways a_first a_second) (ho : ∀ b, b < 8 → a_over b = ms_k (gr_D (gr_e wk A B) b)) {b : Nat} (hb : b < 8) (hp : post (ms_k (gr_F (gr_e wk A B) b))) : wpY_ends post (f_came, f_said, f_done, a_acts, a_numbers, a_ways, a_first, a_second, a_over, a_reg, a_last, a_often) (nI b) 0 := by
  have hc : (nI b).toNatClampNeg = b := nI_clamp (by omega)
  have hi : vp_in (nI b) 8 := vp_in_nI hb (by decide)
  unfold wpY_ends
  dsimp only
  rw [hc, ho b hb]
  refine ⟨hi, br_c (fun z => ?_) (fun z => br_t rfl (yw_named hw hb ⟨hi, ?_⟩))⟩
  · have nl : gr_L (gr_e wk A B) b = false := gr_nb fun l => by
      have := ms_all0 z b hb
      rw [gr_D_r l] at this; cases this
    rw [ms_eq0 (S := gr_F (gr_e wk A B) b) fun c _ => by unfold gr_F; rw [nl]; rfl] at hp
    exact hp
  · have l : gr_L (gr_e wk A B) b = true := xw_tn fun nl => z (ms_eq0 fun c _ => by unfold gr_D; rw [nl]; rfl)
    rw [ms_andn, ms_ext (T := gr_F (gr_e wk A B) b) fun c _ => by unfold gr_F; rw [l]; rfl]
    exact hp
theorem yw_ends1 {post : Int32 → Prop} (hw : wy_R wk A B a_ways a_first a_second) (ho : ∀ b, b < 8 → a_over b = ms_k (gr_D (gr_e wk A B) b)) {b : Nat} (hb : b < 8) (hp : post (ms_k (gr_B (gr_e wk A B) b))) : wpY_ends post (f_came, f_said, f_done, a_acts, a_numbers, a_ways, a_first, a_second, a_over, a_reg, a_last, a_often) (nI b) 1 := by
  have hc : (nI b).toNatClampNeg = b := nI_clamp (by omega)
  have hi : vp_in (nI b) 8 := vp_in_nI hb (by decide)
  unfold wpY_ends
  dsimp only
  rw [hc, ho b hb]
  refine ⟨hi, br_c (fun z => ?_) (fun z => br_f (by decide) (yw_named hw hb ⟨hi, ?_⟩))⟩
  · have nl : gr_L (gr_e wk A B) b = false := gr_nb fun l => by
      have := ms_all0 z b hb
      rw [gr_D_r l] at this; cases this
    rw [ms_eq0 (S := gr_B (gr_e wk A B) b) fun c _ => by unfold gr_B; rw [nl]; rfl] at hp
    exact hp
  · have l : gr_L (gr_e wk A B) b = true := xw_tn fun nl => z (ms_eq0 fun c _ => by unfold gr_D; rw [nl]; rfl)
    rw [ms_and, ms_ext (T := gr_B (gr_e wk A B) b) fun c _ => by unfold gr_B; rw [l]; rfl]
    exact hp
theorem yw_on4 {post : Int32 → Prop} {S : Nat → Bool} (hw : wy_R wk A B a_ways a_first a_second) (ho : ∀ b, b < 8 → a_over b = ms_k (gr_D (gr_e wk A B) b)) (hp : post (ms_k (gr_o (gr_F (gr_e wk A B)) S 8))) : ∀ d i, i + d = 8 → wY_onward_4 post (ms_k S) f_came f_said f_done a_acts a_numbers a_ways a_first a_second a_over a_reg a_last a_often (d + 1) (ms_k (gr_o (gr_F (gr_e wk A B)) S i)) (nI i) := by
  intro d
  induction d with
  | zero =>
    intro i hi
    have : i = 8 := by omega
    subst this
    exact br_t (xw_8e hi) hp
  | succ d ih =>
    intro i hi
    have i8 : i < 8 := by omega
    have next := ih (i + 1) (by omega)
    refine br_f (xw_8 hi) (br_c (fun z => ?_) (fun z => nm_r (nI_1 i) ?_))
    · have z := (ms_get1 _ i8).mp z
      refine yw_ends0 hw ho i8 (nm_r (e' := ms_k (gr_o (gr_F (gr_e wk A B)) S (i + 1))) ?_ (nm_r (nI_1 i) next))
      rw [ms_or]
      refine ms_ext fun c _ => ?_
      show _ = (gr_o (gr_F (gr_e wk A B)) S i c || (S i && gr_F (gr_e wk A B) i c))
      rw [z]; rfl
    · have z : S i = false := gr_nb fun y => z ((ms_get1 _ i8).mpr y)
      rw [ms_ext (S := gr_o (gr_F (gr_e wk A B)) S i) (T := gr_o (gr_F (gr_e wk A B)) S (i + 1)) fun c _ => ?_]
      · exact next
      · show _ = (gr_o (gr_F (gr_e wk A B)) S i c || (S i && gr_F (gr_e wk A B) i c))
        rw [z]; simp
theorem yw_onward {post : Int32 → Prop} {S : Nat → Bool} (hw : wy_R wk A B a_ways a_first a_second) (ho : ∀ b, b < 8 → a_over b = ms_k (gr_D (gr_e wk A B) b)) (hp : post (ms_k (gr_o (gr_F (gr_e wk A B)) S 8))) : wpY_onward post (f_came, f_said, f_done, a_acts, a_numbers, a_ways, a_first, a_second, a_over, a_reg, a_last, a_often) (ms_k S) :=
  ⟨9, yw_on4 hw ho hp 8 0 rfl⟩
def yw_i (b : Bool) : Int32 := if b = true then 1 else 0
theorem yw_rg24 {post : Int32 → SY → Prop} {J8 : Int32 → Int32 → Prop} {v : Bool} {b : Nat} (hb : b < 8) (hw : wy_R wk A B a_ways a_first a_second) (ho : ∀ b, b < 8 → a_over b = ms_k (gr_D (gr_e wk A B) b)) (hJ : J8 (yw_i (v || gr_G (gr_F (gr_e wk A B)) b b)) (nI (b + 1))) : ∀ d k, k + d = 8 → wY_regular_24 post J8 (yw_i v) (nI b) f_came f_said f_done a_acts a_numbers a_ways a_first a_second a_over a_reg a_last a_often (d + 1) (ms_k (gr_p (gr_F (gr_e wk A B)) b k)) (nI k) := by
  intro d
  induction d with
  | zero =>
    intro k hk
    have : k = 8 := by omega
    subst this
    refine br_t (xw_8e hk) ?_
    cases v with
    | true => exact br_f (by decide) (nm_r (nI_1 b) hJ)
    | false =>
      refine br_t rfl (br_c (fun z => nm_r (nI_1 b) ?_) (fun z => nm_r (nI_1 b) ?_))
      · have z : gr_G (gr_F (gr_e wk A B)) b b = true := (ms_get1 _ hb).mp z
        rw [z] at hJ; exact hJ
      · have z : gr_G (gr_F (gr_e wk A B)) b b = false := gr_nb fun y => z ((ms_get1 _ hb).mpr y)
        rw [z] at hJ; exact hJ
  | succ d ih =>
    intro k hk
    exact br_f (xw_8 hk) (yw_onward hw ho (nm_r (nI_1 k) (ih (k + 1) (by omega))))
theorem yw_rg8 {post : Int32 → SY → Prop} (hw : wy_R wk A B a_ways a_first a_second) (ho : ∀ b, b < 8 → a_over b = ms_k (gr_D (gr_e wk A B) b)) (hp : post (yw_i (!(gr_Z (gr_F (gr_e wk A B)) 8))) (f_came, f_said, f_done, a_acts, a_numbers, a_ways, a_first, a_second, a_over, a_reg, a_last, a_often)) : ∀ d i, i + d = 8 → wY_regular_8 post f_came f_said f_done a_acts a_numbers a_ways a_first a_second a_over a_reg a_last a_often (d + 1) (yw_i (gr_Z (gr_F (gr_e wk A B)) i)) (nI i) := by
  intro d
  induction d with
  | zero =>
    intro i hi
    have : i = 8 := by omega
    subst this
    refine br_t (xw_8e hi) ?_
    cases z : gr_Z (gr_F (gr_e wk A B)) 8 with
    | true => rw [z] at hp; exact br_f (by decide) hp
    | false => rw [z] at hp; exact br_t rfl hp
  | succ d ih =>
    intro i hi
    have i8 : i < 8 := by omega
    exact br_f (xw_8 hi) (yw_ends0 hw ho i8 ⟨9, yw_rg24 i8 hw ho (ih (i + 1) (by omega)) 8 0 rfl⟩)
theorem yw_regular {post : Int32 → SY → Prop} (hw : wy_R wk A B a_ways a_first a_second) (hp : ∀ a_over : Nat → Int32, post (yw_i (!(gr_Z (gr_F (gr_e wk A B)) 8))) (f_came, f_said, f_done, a_acts, a_numbers, a_ways, a_first, a_second, a_over, a_reg, a_last, a_often)) : wpY_regular post (f_came, f_said, f_done, a_acts, a_numbers, a_ways, a_first, a_second, a_over, a_reg, a_last, a_often) :=
  yw_over hw fun ov ho => ⟨9, yw_rg8 hw ho (hp ov) 8 0 rfl⟩
theorem yw_lo8 {post : Int32 → SY → Prop} (hw : wy_R wk A B a_ways a_first a_second) (ho : ∀ b, b < 8 → a_over b = ms_k (gr_D (gr_e wk A B) b)) (hp : post (ms_k (gr_H (gr_e wk A B))) (f_came, f_said, f_done, a_acts, a_numbers, a_ways, a_first, a_second, a_over, a_reg, a_last, a_often)) : ∀ d i, i + d = 8 → wY_loops_8 post f_came f_said f_done a_acts a_numbers a_ways a_first a_second a_over a_reg a_last a_often (d + 1) (ms_k (fun c => gr_x (fun a => gr_B (gr_e wk A B) a c) i)) (nI i) := by
  intro d
  induction d with
  | zero =>
    intro i hi
    have : i = 8 := by omega
    subst this
    exact br_t (xw_8e hi) hp
  | succ d ih =>
    intro i hi
    have i8 : i < 8 := by omega
    refine br_f (xw_8 hi) (yw_ends1 hw ho i8 (nm_r (e' := ms_k (fun c => gr_x (fun a => gr_B (gr_e wk A B) a c) (i + 1))) ?_ (nm_r (nI_1 i) (ih (i + 1) (by omega)))))
    rw [ms_or]; exact ms_ext fun c _ => rfl
theorem yw_loops {post : Int32 → SY → Prop} (hw : wy_R wk A B a_ways a_first a_second) (hp : ∀ a_over : Nat → Int32, post (ms_k (gr_H (gr_e wk A B))) (f_came, f_said, f_done, a_acts, a_numbers, a_ways, a_first, a_second, a_over, a_reg, a_last, a_often)) : wpY_loops post (f_came, f_said, f_done, a_acts, a_numbers, a_ways, a_first, a_second, a_over, a_reg, a_last, a_often) :=
  yw_over hw fun ov ho => ⟨9, by
    have := yw_lo8 (f_came := f_came) (f_said := f_said) (f_done := f_done) (a_acts := a_acts) (a_numbers := a_numbers) (a_reg := a_reg) (a_last := a_last) (a_often := a_often) hw ho (hp ov) 8 0 rfl
    rw [ms_eq0 (S := fun c => gr_x (fun a => gr_B (gr_e wk A B) a c) 0) fun c _ => rfl] at this
    exact this⟩
theorem yw_xc (P : Nat → Bool) : ∀ n, gr_x P n = decide (1 ≤ gr_c P n) := by
  intro n
  induction n with
  | zero => rfl
  | succ n ih =>
    show (gr_x P n || P n) = decide (1 ≤ gr_c P n + (if P n = true then 1 else 0))
    rw [ih]
    cases h : P n with
    | true => rw [if_pos rfl, decide_eq_true (show 1 ≤ gr_c P n + 1 by omega)]; simp
    | false => rw [if_neg (by decide)]; simp
theorem yw_me10 {post : Int32 → SY → Prop} (hw : wy_R wk A B a_ways a_first a_second) (ho : ∀ b, b < 8 → a_over b = ms_k (gr_D (gr_e wk A B) b)) (hp : post (ms_k (gr_M (gr_e wk A B))) (f_came, f_said, f_done, a_acts, a_numbers, a_ways, a_first, a_second, a_over, a_reg, a_last, a_often)) : ∀ d i, i + d = 8 → wY_merges_10 post f_came f_said f_done a_acts a_numbers a_ways a_first a_second a_over a_reg a_last a_often (d + 1) (ms_k (fun c => gr_x (fun a => gr_F (gr_e wk A B) a c) i)) (ms_k (fun c => decide (2 ≤ gr_c (fun a => gr_F (gr_e wk A B) a c) i))) (nI i) := by
  intro d
  induction d with
  | zero =>
    intro i hi
    have : i = 8 := by omega
    subst this
    exact br_t (xw_8e hi) hp
  | succ d ih =>
    intro i hi
    have i8 : i < 8 := by omega
    refine br_f (xw_8 hi) (yw_ends0 hw ho i8 (nm_r (e' := ms_k (fun c => decide (2 ≤ gr_c (fun a => gr_F (gr_e wk A B) a c) (i + 1)))) ?_ (nm_r (e' := ms_k (fun c => gr_x (fun a => gr_F (gr_e wk A B) a c) (i + 1))) ?_ (nm_r (nI_1 i) (ih (i + 1) (by omega))))))
    · rw [ms_and, ms_or]
      refine ms_ext fun c _ => ?_
      show (decide (2 ≤ gr_c (fun a => gr_F (gr_e wk A B) a c) i) || (gr_x (fun a => gr_F (gr_e wk A B) a c) i && gr_F (gr_e wk A B) i c)) = decide (2 ≤ gr_c (fun a => gr_F (gr_e wk A B) a c) i + (if gr_F (gr_e wk A B) i c = true then 1 else 0))
      rw [yw_xc]
      generalize gr_c (fun a => gr_F (gr_e wk A B) a c) i = m
      cases gr_F (gr_e wk A B) i c with
      | true =>
        rw [if_pos rfl, Bool.and_true, ← Bool.decide_or]
        exact decide_eq_decide.mpr (by omega)
      | false => rw [if_neg (by decide)]; simp
    · rw [ms_or]; exact ms_ext fun c _ => rfl
theorem yw_merges {post : Int32 → SY → Prop} (hw : wy_R wk A B a_ways a_first a_second) (hp : ∀ a_over : Nat → Int32, post (ms_k (gr_M (gr_e wk A B))) (f_came, f_said, f_done, a_acts, a_numbers, a_ways, a_first, a_second, a_over, a_reg, a_last, a_often)) : wpY_merges post (f_came, f_said, f_done, a_acts, a_numbers, a_ways, a_first, a_second, a_over, a_reg, a_last, a_often) :=
  yw_over hw fun ov ho => ⟨9, by
    have := yw_me10 (f_came := f_came) (f_said := f_said) (f_done := f_done) (a_acts := a_acts) (a_numbers := a_numbers) (a_reg := a_reg) (a_last := a_last) (a_often := a_often) hw ho (hp ov) 8 0 rfl
    rw [ms_eq0 (S := fun c => gr_x (fun a => gr_F (gr_e wk A B) a c) 0) fun c _ => rfl, ms_eq0 (S := fun c => decide (2 ≤ gr_c (fun a => gr_F (gr_e wk A B) a c) 0)) fun c _ => rfl] at this
    exact this⟩
end
end
section
/-! the work as its arrays hold it; its weight falls; want, put, open -/
def wr_RW (wK wB wR : Nat → Int32) : List wr_It → Nat → Prop
  | [], n => n = 0
  | it :: w, n => ∃ m, n = m + 1 ∧ it.1 ≤ 4 ∧ wK m = nI it.1 ∧ wB m = nI it.2.1 ∧ wR m = (if it.1 = 1 then ms_k it.2.2.2 else nI it.2.2.1) ∧ wr_RW wK wB wR w m
theorem wr_RW_ext {wK wB wR wK' wB' wR' : Nat → Int32} : ∀ (w : List wr_It) (n : Nat), (∀ j, j < n → wK' j = wK j ∧ wB' j = wB j ∧ wR' j = wR j) → wr_RW wK wB wR w n → wr_RW wK' wB' wR' w n := by
  intro w
  induction w with
  | nil => intro n _ h; exact h
  | cons it w ih =>
    intro n hn h
    obtain ⟨m, h1, h2, h3, h4, h5, h6⟩ := h
    obtain ⟨q1, q2, q3⟩ := hn m (by omega)
    exact ⟨m, h1, h2, q1.trans h3, q2.trans h4, q3.trans h5, ih m (fun j hj => hn j (by omega)) h6⟩
theorem wr_RW_len {wK wB wR : Nat → Int32} : ∀ (w : List wr_It) (n : Nat), wr_RW wK wB wR w n → w.length = n := by
  intro w
  induction w with
  | nil => intro n h; exact h.symm
  | cons it w ih =>
    intro n h
    obtain ⟨m, h1, h2, h3, h4, h5, h6⟩ := h
    rw [List.length_cons, ih m h6, h1]
theorem wr_RW_push {wK wB wR : Nat → Int32} {w : List wr_It} {n k b t : Nat} {S : Nat → Bool} {r : Int32} (h : wr_RW wK wB wR w n) (k4 : k ≤ 4) (hr : r = (if k = 1 then ms_k S else nI t)) : wr_RW (upd wK n (nI k)) (upd wB n (nI b)) (upd wR n r) ((k, b, t, S) :: w) (n + 1) :=
  ⟨n, rfl, k4, pk_us, pk_us, pk_us.trans hr, wr_RW_ext w n (fun j hj => ⟨pk_un (by omega), pk_un (by omega), pk_un (by omega)⟩) h⟩
section
variable {e : Nat → Nat → Bool} {pr p A B wk : Nat → Nat} {c g oK oT : Nat → Int32} {sz no b t : Nat} {w : List wr_It} {S : Nat → Bool}
theorem wr_bd (h : wr_W e pr p A B wk oK oT no c g sz w) : sz + wr_p e pr 1 w ≤ 78 ∧ no ≤ 23 ∧ w.length ≤ 78 := by
  obtain ⟨G, tg, g0, ⟨j1, j2, j3, j4, j5, j6, j7, j8, j9, j10, j11⟩, r⟩ := h
  have h1 := wr_RO_len _ _ r
  have h2 := j9 sz (Nat.le_refl _)
  have h3 := wr_i_1 w _ j8
  exact ⟨by omega, by omega, by omega⟩
theorem wr_d0 (hg : wr_Gr e pr p A B wk) (h : wr_W e pr p A B wk oK oT no c g sz ((0, b, t, S) :: w)) : b < 8 ∧ wr_p e pr 1 ((1, b, 0, wr_ms e pr b) :: (4, 0, 0, wr_z) :: w) < wr_p e pr 1 ((0, b, t, S) :: w) ∧ wr_p e pr 1 ((1, b, 0, wr_ms e pr b) :: w) < wr_p e pr 1 ((0, b, t, S) :: w) := by
  obtain ⟨G, tg, g0, j, r⟩ := h
  obtain ⟨x0, v⟩ := wr_V0 j.2.2.2.2.2.2.2.1
  have y1 := wr_pay0 hg.1 (x := 1) (t := t) (S := wr_ms e pr b) (S' := S) (Or.inr rfl) x0.1 x0.2.1
  have e1 : wr_i e pr 1 (1, b, 0, wr_ms e pr b) = wr_i e pr 1 (1, b, t, wr_ms e pr b) := rfl
  refine ⟨x0.1, ?_, ?_⟩
  · show wr_i e pr 1 (1, b, 0, wr_ms e pr b) + (1 + wr_p e pr 1 w) < wr_i e pr 1 (0, b, t, S) + wr_p e pr 1 w
    omega
  · show wr_i e pr 1 (1, b, 0, wr_ms e pr b) + wr_p e pr 1 w < wr_i e pr 1 (0, b, t, S) + wr_p e pr 1 w
    omega
theorem wr_d1 {y : Nat} (hy : y < 8) (hS : S y = true) (h : wr_W e pr p A B wk oK oT no c g sz ((1, b, t, S) :: w)) : wr_p e pr 1 ((1, b, 0, fun i => S i && !(i == y)) :: (4, 0, 0, wr_z) :: (0, y, 0, wr_z) :: w) < wr_p e pr 1 ((1, b, t, S) :: w) := by
  obtain ⟨G, tg, g0, j, r⟩ := h
  obtain ⟨x1, v⟩ := wr_V1 j.2.2.2.2.2.2.2.1
  obtain ⟨m1, m2, m3⟩ := x1.2.2.2.2.2 y hy hS
  have y1 := wr_pay1 (e := e) (pr := pr) (x := 1) (t := t) (t' := 0) (S := S) (S' := wr_z) hy hS m2 m3
  show wr_i e pr 1 (1, b, 0, fun i => S i && !(i == y)) + (1 + (wr_i e pr 1 (0, y, 0, wr_z) + wr_p e pr 1 w)) < wr_i e pr 1 (1, b, t, S) + wr_p e pr 1 w
  omega
theorem wr_d1b (h : wr_W e pr p A B wk oK oT no c g sz ((1, b, t, S) :: w)) : b < 8 ∧ ∀ m, m < 8 → S m = true → gr_L e m = true := by
  obtain ⟨G, tg, g0, j, r⟩ := h
  obtain ⟨x1, v⟩ := wr_V1 j.2.2.2.2.2.2.2.1
  exact ⟨x1.1, fun m hm hS => (x1.2.2.2.2.2 m hm hS).1⟩
theorem wr_d5 (hS : ∀ m, m < 8 → S m = false) : wr_p e pr 1 ((5, b, 0, wr_z) :: w) < wr_p e pr 1 ((1, b, t, S) :: w) := by
  have es : gr_t (wr_f e pr 1 b S) 8 = gr_t (wr_f e pr 1 b wr_z) 8 := gr_t_congr 8 fun i hi => by
    unfold wr_f
    rw [hS i hi]; rfl
  show wr_i e pr 1 (5, b, 0, wr_z) + wr_p e pr 1 w < wr_i e pr 1 (1, b, t, S) + wr_p e pr 1 w
  rw [wr_i5, wr_i1, es]; omega
theorem wr_d5h : wr_p e pr 1 w < wr_p e pr 1 ((5, b, t, S) :: w) := by
  show wr_p e pr 1 w < wr_i e pr 1 (5, b, t, S) + wr_p e pr 1 w
  rw [wr_i5]; omega
theorem wr_d5g (hg : wr_Gr e pr p A B wk) (hb : b < 8) : wr_p e pr 1 ((2, b, A b, wr_z) :: w) < wr_p e pr 1 ((5, b, t, S) :: w) := by
  obtain ⟨k1, k2, k3, k4, k5, k6⟩ := hg.2.2 b hb
  have f1 := wr_pay2 hg.1 (x := 1) hb k2
  have t1 := gr_t_ge (f := wr_f e pr 1 b wr_z) k2
  show wr_i e pr 1 (2, b, A b, wr_z) + wr_p e pr 1 w < wr_i e pr 1 (5, b, t, S) + wr_p e pr 1 w
  rw [wr_i2, wr_i5]; omega
theorem wr_d5i (hg : wr_Gr e pr p A B wk) (hb : b < 8) (hk : 2 ≤ wk b) : wr_p e pr 1 ((2, b, A b, wr_z) :: (3, 0, 0, wr_z) :: (2, b, B b, wr_z) :: (4, 0, 0, wr_z) :: w) < wr_p e pr 1 ((5, b, t, S) :: w) := by
  obtain ⟨k1, k2, k3, k4, k5, k6⟩ := hg.2.2 b hb
  have f1 := wr_pay2 hg.1 (x := 1) hb k2
  have f1' := wr_pay2 hg.1 (x := 1) hb k3
  have t1 := gr_t_two (f := wr_f e pr 1 b wr_z) (k4 hk) k2 k3
  show wr_i e pr 1 (2, b, A b, wr_z) + (1 + (wr_i e pr 1 (2, b, B b, wr_z) + (1 + wr_p e pr 1 w))) < wr_i e pr 1 (5, b, t, S) + wr_p e pr 1 w
  rw [wr_i2, wr_i2, wr_i5]; omega
theorem wr_d2a (hF : gr_F e b t = true) (hM : gr_M e t = false) : wr_p e pr 1 ((0, t, 0, wr_z) :: w) < wr_p e pr 1 ((2, b, t, S) :: w) := by
  show wr_T e 1 t + wr_p e pr 1 w < wr_i e pr 1 (2, b, t, S) + wr_p e pr 1 w
  rw [wr_i2, if_pos ⟨hF, hM⟩]; omega
theorem wr_d2b : wr_p e pr 1 w < wr_p e pr 1 ((2, b, t, S) :: w) := by
  show wr_p e pr 1 w < wr_i e pr 1 (2, b, t, S) + wr_p e pr 1 w
  rw [wr_i2]; omega
theorem wr_d3 : wr_p e pr 1 w < wr_p e pr 1 ((3, b, t, S) :: w) := by
  show wr_p e pr 1 w < 1 + wr_p e pr 1 w
  omega
theorem wr_d4 : wr_p e pr 1 w < wr_p e pr 1 ((4, b, t, S) :: w) := by
  show wr_p e pr 1 w < 1 + wr_p e pr 1 w
  omega
end
def xw_b8 (x : Int32) : Prop := vp_nar .byte x.toInt8.toInt32 = x
theorem xw_b8n {n : Nat} (h : n < 128) : xw_b8 (nI n) := ms_vb h
theorem xw_b8m : xw_b8 (-1) := ms_vm1
section
variable {f_known f_liveSet f_ordered f_loopSet f_mergeSet f_written f_codeSize f_workCount f_openCount f_state f_outCount f_carriedCount f_labelCount : Int32} {a_actKind a_actNumber a_wayKind a_wayA a_wayB a_dominating a_forward a_parent a_place a_code a_codeArg a_endOf a_elseOf a_workKind a_workBlock a_workRest a_openKind a_openTarget a_registers a_lately a_visitCount a_labels : Nat → Int32}
theorem xw_want {post : SX → Prop} {n k b : Nat} {r : Int32} (hn : n < 96) (hk : k < 128) (hb : b < 128) (hr : vp_nar .short r.toInt16.toInt32 = r) (hp : post (f_known, f_liveSet, f_ordered, f_loopSet, f_mergeSet, f_written, f_codeSize, nI (n + 1), f_openCount, f_state, f_outCount, f_carriedCount, f_labelCount, a_actKind, a_actNumber, a_wayKind, a_wayA, a_wayB, a_dominating, a_forward, a_parent, a_place, a_code, a_codeArg, a_endOf, a_elseOf, upd a_workKind n (nI k), upd a_workBlock n (nI b), upd a_workRest n r, a_openKind, a_openTarget, a_registers, a_lately, a_visitCount, a_labels)) : wpX_want post (f_known, f_liveSet, f_ordered, f_loopSet, f_mergeSet, f_written, f_codeSize, nI n, f_openCount, f_state, f_outCount, f_carriedCount, f_labelCount, a_actKind, a_actNumber, a_wayKind, a_wayA, a_wayB, a_dominating, a_forward, a_parent, a_place, a_code, a_codeArg, a_endOf, a_elseOf, a_workKind, a_workBlock, a_workRest, a_openKind, a_openTarget, a_registers, a_lately, a_visitCount, a_labels) (nI k) (nI b) r := by
  have hin := vp_in_nI hn (by decide)
  have hc : (nI n).toNatClampNeg = n := nI_clamp (by omega)
  unfold wpX_want
  dsimp only
  rw [hc, ms_vb hk, ms_vb hb, hr]
  exact ⟨hin, nm_e ⟨hin, nm_e ⟨hin, nm_e (nm_r (nI_1 n) hp)⟩⟩⟩
theorem xw_put {post : SX → Prop} {s : Nat} {op arg : Int32} (hs : s < 128) (h1 : xw_b8 op) (h2 : xw_b8 arg) (hp : post (f_known, f_liveSet, f_ordered, f_loopSet, f_mergeSet, f_written, nI (s + 1), f_workCount, f_openCount, f_state, f_outCount, f_carriedCount, f_labelCount, a_actKind, a_actNumber, a_wayKind, a_wayA, a_wayB, a_dominating, a_forward, a_parent, a_place, upd a_code s op, upd a_codeArg s arg, a_endOf, a_elseOf, a_workKind, a_workBlock, a_workRest, a_openKind, a_openTarget, a_registers, a_lately, a_visitCount, a_labels)) : wpX_put post (f_known, f_liveSet, f_ordered, f_loopSet, f_mergeSet, f_written, nI s, f_workCount, f_openCount, f_state, f_outCount, f_carriedCount, f_labelCount, a_actKind, a_actNumber, a_wayKind, a_wayA, a_wayB, a_dominating, a_forward, a_parent, a_place, a_code, a_codeArg, a_endOf, a_elseOf, a_workKind, a_workBlock, a_workRest, a_openKind, a_openTarget, a_registers, a_lately, a_visitCount, a_labels) op arg := by
  have hin := vp_in_nI hs (by decide)
  have hc : (nI s).toNatClampNeg = s := nI_clamp (by omega)
  unfold wpX_put
  dsimp only
  rw [hc, show vp_nar .byte op.toInt8.toInt32 = op from h1, show vp_nar .byte arg.toInt8.toInt32 = arg from h2]
  exact ⟨hin, nm_e ⟨hin, nm_e (nm_r (nI_1 s) hp)⟩⟩
theorem xw_open {post : SX → Prop} {s no : Nat} {op arg tv : Int32} (hs : s < 128) (hn : no < 32) (h1 : xw_b8 op) (h2 : xw_b8 arg) (h3 : xw_b8 tv) (hp : post (f_known, f_liveSet, f_ordered, f_loopSet, f_mergeSet, f_written, nI (s + 1), f_workCount, nI (no + 1), f_state, f_outCount, f_carriedCount, f_labelCount, a_actKind, a_actNumber, a_wayKind, a_wayA, a_wayB, a_dominating, a_forward, a_parent, a_place, upd a_code s op, upd a_codeArg s arg, a_endOf, a_elseOf, a_workKind, a_workBlock, a_workRest, upd a_openKind no op, upd a_openTarget no tv, a_registers, a_lately, a_visitCount, a_labels)) : wpX_open post (f_known, f_liveSet, f_ordered, f_loopSet, f_mergeSet, f_written, nI s, f_workCount, nI no, f_state, f_outCount, f_carriedCount, f_labelCount, a_actKind, a_actNumber, a_wayKind, a_wayA, a_wayB, a_dominating, a_forward, a_parent, a_place, a_code, a_codeArg, a_endOf, a_elseOf, a_workKind, a_workBlock, a_workRest, a_openKind, a_openTarget, a_registers, a_lately, a_visitCount, a_labels) op arg tv := by
  have hin := vp_in_nI hn (by decide)
  have hc : (nI no).toNatClampNeg = no := nI_clamp (by omega)
  unfold wpX_open
  dsimp only
  refine xw_put hs h1 h2 ?_
  dsimp only
  rw [hc, show vp_nar .byte op.toInt8.toInt32 = op from h1, show vp_nar .byte tv.toInt8.toInt32 = tv from h3]
  exact ⟨hin, nm_e ⟨hin, nm_e (nm_r (nI_1 no) hp)⟩⟩
end
end
section
/-! the component's writing of one item -/
theorem xw_in2 {post : Int32 → Prop} {S : Nat → Bool} {b : Nat} (hb : b < 8) (f : S b = false → post 0) (g : S b = true → post 1) : wpX_in post (ms_k S) (nI b) :=
  ⟨fun h => f ((ms_get0 S hb).mp h), fun h => g (xw_tn fun z => h ((ms_get0 S hb).mpr z))⟩
section
variable {f_known f_liveSet f_ordered f_loopSet f_mergeSet f_written f_codeSize f_workCount f_openCount f_state f_outCount f_carriedCount f_labelCount : Int32} {a_actKind a_actNumber a_wayKind a_wayA a_wayB a_dominating a_forward a_parent a_place a_code a_codeArg a_endOf a_elseOf a_workKind a_workBlock a_workRest a_openKind a_openTarget a_registers a_lately a_visitCount a_labels : Nat → Int32}
variable {e : Nat → Nat → Bool} {pr p A B wk : Nat → Nat} {sz no nw b t N : Nat} {w : List wr_It} {S : Nat → Bool}
theorem xw_tr29 {post : SX → Prop} (hb : b < 8) (hpr : ∀ c b, c < 8 → b < 8 → (a_parent c = nI b ↔ pr c = b)) (hn : nw < 96) (hp : post (f_known, ms_k (gr_L e), f_ordered, ms_k (gr_H e), ms_k (gr_M e), f_written, f_codeSize, nI (nw + 1), f_openCount, f_state, f_outCount, f_carriedCount, f_labelCount, a_actKind, a_actNumber, a_wayKind, a_wayA, a_wayB, a_dominating, a_forward, a_parent, a_place, a_code, a_codeArg, a_endOf, a_elseOf, upd a_workKind nw (nI 1), upd a_workBlock nw (nI b), upd a_workRest nw (ms_k (wr_ms e pr b)), a_openKind, a_openTarget, a_registers, a_lately, a_visitCount, a_labels)) : ∀ d i, i + d = 8 → wX_writeTree_29 post (nI b) f_known (ms_k (gr_L e)) f_ordered (ms_k (gr_H e)) (ms_k (gr_M e)) f_written f_codeSize (nI nw) f_openCount f_state f_outCount f_carriedCount f_labelCount a_actKind a_actNumber a_wayKind a_wayA a_wayB a_dominating a_forward a_parent a_place a_code a_codeArg a_endOf a_elseOf a_workKind a_workBlock a_workRest a_openKind a_openTarget a_registers a_lately a_visitCount a_labels (d + 1) (ms_k (fun c => decide (c < i) && wr_ms e pr b c)) (nI i) := by
  intro d
  induction d with
  | zero =>
    intro i hi
    have : i = 8 := by omega
    subst this
    refine br_t (xw_8e hi) ?_
    rw [ms_ext (S := fun c => decide (c < 8) && wr_ms e pr b c) (T := wr_ms e pr b) fun c hc => show (decide (c < 8) && wr_ms e pr b c) = _ by rw [decide_eq_true hc]; rfl]
    exact xw_want (k := 1) hn (by decide) (by omega) (ms_vk _) hp
  | succ d ih =>
    intro i hi
    have i8 : i < 8 := by omega
    have hc : (nI i).toNatClampNeg = i := nI_clamp (by omega)
    have next := ih (i + 1) (by omega)
    have stp : ∀ (v : Bool), wr_ms e pr b i = v → ms_k (fun c => decide (c < i) && wr_ms e pr b c) ||| ms_k (fun c => v && (c == i)) = ms_k (fun c => decide (c < i + 1) && wr_ms e pr b c) := fun v hv => by
      rw [ms_or]
      refine ms_ext fun c _ => ?_
      show ((decide (c < i) && wr_ms e pr b c) || (v && (c == i))) = (decide (c < i + 1) && wr_ms e pr b c)
      by_cases q : c = i
      · subst q; rw [hv]; simp
      · rw [show decide (c < i + 1) = decide (c < i) from decide_eq_decide.mpr (by omega), show (c == i) = false by simpa using q]; simp
    have st0 : wr_ms e pr b i = false → ms_k (fun c => decide (c < i) && wr_ms e pr b c) ||| 0 = ms_k (fun c => decide (c < i + 1) && wr_ms e pr b c) := fun hv => by
      rw [← stp false hv, ms_eq0 (S := fun c => false && (c == i)) fun c _ => rfl]
    have no : wr_ms e pr b i = false → wX_writeTree_60 post (wX_writeTree_29 post (nI b) f_known (ms_k (gr_L e)) f_ordered (ms_k (gr_H e)) (ms_k (gr_M e)) f_written f_codeSize (nI nw) f_openCount f_state f_outCount f_carriedCount f_labelCount a_actKind a_actNumber a_wayKind a_wayA a_wayB a_dominating a_forward a_parent a_place a_code a_codeArg a_endOf a_elseOf a_workKind a_workBlock a_workRest a_openKind a_openTarget a_registers a_lately a_visitCount a_labels (d + 1)) (nI b) (ms_k (fun c => decide (c < i) && wr_ms e pr b c)) (nI i) f_known (ms_k (gr_L e)) f_ordered (ms_k (gr_H e)) (ms_k (gr_M e)) f_written f_codeSize (nI nw) f_openCount f_state f_outCount f_carriedCount f_labelCount a_actKind a_actNumber a_wayKind a_wayA a_wayB a_dominating a_forward a_parent a_place a_code a_codeArg a_endOf a_elseOf a_workKind a_workBlock a_workRest a_openKind a_openTarget a_registers a_lately a_visitCount a_labels := fun v => by
      unfold wX_writeTree_60 wX_writeTree_61
      exact br_t rfl (nm_r (st0 v) (nm_r (nI_1 i) next))
    refine br_f (xw_8 hi) (xw_in i8 (fun z => no ?_) (fun z => ⟨vp_in_nI i8 (by decide), br_c (fun y => ?_) (fun y => no ?_)⟩))
    · exact gr_nb fun v => by rw [(wr_ms_i.mp v).1] at z; cases z
    · rw [hc] at y
      have y := (hpr i b i8 hb).mp y
      unfold wX_writeTree_61
      refine br_f (by decide) (xw_in i8 (fun q => nm_r (st0 ?_) (nm_r (nI_1 i) next)) (fun q => nm_r ?_ (nm_r (nI_1 i) next)))
      · exact gr_nb fun v => by rw [(wr_ms_i.mp v).2.2] at q; cases q
      · rw [← stp true (wr_ms_i.mpr ⟨z, y, q⟩), ms_bit i8]
        exact congrArg _ (ms_ext fun c _ => rfl)
    · rw [hc] at y
      exact gr_nb fun v => y ((hpr i b i8 hb).mpr (wr_ms_i.mp v).2.1)
theorem xw_trM {post : SX → Prop} (hb : b < 8) (hpr : ∀ c b, c < 8 → b < 8 → (a_parent c = nI b ↔ pr c = b)) (hn : nw < 96) (hp : post (f_known, ms_k (gr_L e), f_ordered, ms_k (gr_H e), ms_k (gr_M e), f_written, f_codeSize, nI (nw + 1), f_openCount, f_state, f_outCount, f_carriedCount, f_labelCount, a_actKind, a_actNumber, a_wayKind, a_wayA, a_wayB, a_dominating, a_forward, a_parent, a_place, a_code, a_codeArg, a_endOf, a_elseOf, upd a_workKind nw (nI 1), upd a_workBlock nw (nI b), upd a_workRest nw (ms_k (wr_ms e pr b)), a_openKind, a_openTarget, a_registers, a_lately, a_visitCount, a_labels)) : ∃ n29 : Nat, wX_writeTree_29 post (nI b) f_known (ms_k (gr_L e)) f_ordered (ms_k (gr_H e)) (ms_k (gr_M e)) f_written f_codeSize (nI nw) f_openCount f_state f_outCount f_carriedCount f_labelCount a_actKind a_actNumber a_wayKind a_wayA a_wayB a_dominating a_forward a_parent a_place a_code a_codeArg a_endOf a_elseOf a_workKind a_workBlock a_workRest a_openKind a_openTarget a_registers a_lately a_visitCount a_labels n29 0 0 := by
  refine ⟨9, ?_⟩
  have e0 : (0 : Int32) = ms_k (fun c => decide (c < 0) && wr_ms e pr b c) := (ms_eq0 fun i _ => by simp).symm
  show wX_writeTree_29 post (nI b) f_known (ms_k (gr_L e)) f_ordered (ms_k (gr_H e)) (ms_k (gr_M e)) f_written f_codeSize (nI nw) f_openCount f_state f_outCount f_carriedCount f_labelCount a_actKind a_actNumber a_wayKind a_wayA a_wayB a_dominating a_forward a_parent a_place a_code a_codeArg a_endOf a_elseOf a_workKind a_workBlock a_workRest a_openKind a_openTarget a_registers a_lately a_visitCount a_labels 9 0 (nI 0)
  have := xw_tr29 (post := post) (f_known := f_known) (f_ordered := f_ordered) (e := e) hb hpr hn hp 8 0 rfl
  rw [← e0] at this
  exact this
theorem xw_tree {post : SX → Prop} (hg : wr_Gr e pr p A B wk) (hpr : ∀ c b, c < 8 → b < 8 → (a_parent c = nI b ↔ pr c = b)) (hR : wr_RW a_workKind a_workBlock a_workRest w nw) (hW : wr_W e pr p A B wk a_openKind a_openTarget no a_code a_codeArg sz ((0, b, t, S) :: w)) (hN : wr_p e pr 1 ((0, b, t, S) :: w) ≤ N) (hC : ∀ (w' : List wr_It) (nw no sz : Nat) (a_code a_codeArg a_workKind a_workBlock a_workRest a_openKind a_openTarget : Nat → Int32), wr_RW a_workKind a_workBlock a_workRest w' nw → wr_W e pr p A B wk a_openKind a_openTarget no a_code a_codeArg sz w' → wr_p e pr 1 w' < N → post (f_known, ms_k (gr_L e), f_ordered, ms_k (gr_H e), ms_k (gr_M e), f_written, nI sz, nI nw, nI no, f_state, f_outCount, f_carriedCount, f_labelCount, a_actKind, a_actNumber, a_wayKind, a_wayA, a_wayB, a_dominating, a_forward, a_parent, a_place, a_code, a_codeArg, a_endOf, a_elseOf, a_workKind, a_workBlock, a_workRest, a_openKind, a_openTarget, a_registers, a_lately, a_visitCount, a_labels)) : wpX_writeTree post (f_known, ms_k (gr_L e), f_ordered, ms_k (gr_H e), ms_k (gr_M e), f_written, nI sz, nI nw, nI no, f_state, f_outCount, f_carriedCount, f_labelCount, a_actKind, a_actNumber, a_wayKind, a_wayA, a_wayB, a_dominating, a_forward, a_parent, a_place, a_code, a_codeArg, a_endOf, a_elseOf, a_workKind, a_workBlock, a_workRest, a_openKind, a_openTarget, a_registers, a_lately, a_visitCount, a_labels) (nI b) := by
  obtain ⟨b8, d1, d0⟩ := wr_d0 hg hW
  obtain ⟨bd1, bd2, bd3⟩ := wr_bd hW
  have ln := wr_RW_len _ _ hR
  rw [List.length_cons] at bd3
  unfold wpX_writeTree
  dsimp only
  refine xw_in b8 (fun z => ?_) (fun z => xw_open (by omega) (by omega) (xw_b8n (n := 0) (by decide)) (xw_b8n (n := 0) (by decide)) (xw_b8n (n := b) (by omega)) ?_)
  · exact xw_trM b8 hpr (by omega) (hC _ _ _ _ _ _ _ _ _ _ _ (wr_RW_push hR (by omega) rfl) (wr_tree0 hg z hW) (by omega))
  · dsimp only
    refine xw_want (k := 4) (b := 0) (r := 0) (by omega) (by decide) (by decide) (ms_vs (n := 0) (by decide)) ?_
    dsimp only
    exact xw_trM b8 hpr (by omega) (hC _ _ _ _ _ _ _ _ _ _ _ (wr_RW_push (wr_RW_push (k := 4) (b := 0) (t := 0) (S := wr_z) hR (by omega) rfl) (by omega) rfl) (wr_tree1 hg z hW) (by omega))
theorem xw_within {post : SX → Prop} (hg : wr_Gr e pr p A B wk) (hw : wy_R wk A B a_wayKind a_wayA a_wayB) (hpl : ∀ m, m < 8 → gr_L e m = true → a_place m = nI (p m) ∧ p m < 8) (hR : wr_RW a_workKind a_workBlock a_workRest w nw) (hW : wr_W e pr p A B wk a_openKind a_openTarget no a_code a_codeArg sz ((1, b, t, S) :: w)) (hN : wr_p e pr 1 ((1, b, t, S) :: w) ≤ N) (hC : ∀ (w' : List wr_It) (nw no sz : Nat) (a_code a_codeArg a_workKind a_workBlock a_workRest a_openKind a_openTarget : Nat → Int32), wr_RW a_workKind a_workBlock a_workRest w' nw → wr_W e pr p A B wk a_openKind a_openTarget no a_code a_codeArg sz w' → wr_p e pr 1 w' < N → post (f_known, ms_k (gr_L e), f_ordered, ms_k (gr_H e), ms_k (gr_M e), f_written, nI sz, nI nw, nI no, f_state, f_outCount, f_carriedCount, f_labelCount, a_actKind, a_actNumber, a_wayKind, a_wayA, a_wayB, a_dominating, a_forward, a_parent, a_place, a_code, a_codeArg, a_endOf, a_elseOf, a_workKind, a_workBlock, a_workRest, a_openKind, a_openTarget, a_registers, a_lately, a_visitCount, a_labels)) : wpX_writeWithin post (f_known, ms_k (gr_L e), f_ordered, ms_k (gr_H e), ms_k (gr_M e), f_written, nI sz, nI nw, nI no, f_state, f_outCount, f_carriedCount, f_labelCount, a_actKind, a_actNumber, a_wayKind, a_wayA, a_wayB, a_dominating, a_forward, a_parent, a_place, a_code, a_codeArg, a_endOf, a_elseOf, a_workKind, a_workBlock, a_workRest, a_openKind, a_openTarget, a_registers, a_lately, a_visitCount, a_labels) (nI b) (ms_k S) := by
  obtain ⟨b8, hSL⟩ := wr_d1b hW
  obtain ⟨bd1, bd2, bd3⟩ := wr_bd hW
  have ln := wr_RW_len _ _ hR
  rw [List.length_cons] at bd3
  obtain ⟨k1, k2, k3, k4, k5, k6⟩ := hw b b8
  have hc : (nI b).toNatClampNeg = b := nI_clamp (by omega)
  have hin := vp_in_nI (N := 8) b8 (by decide)
  unfold wpX_writeWithin
  dsimp only
  refine xw_last (p := p) (fun m hm hS => hpl m hm (hSL m hm hS)) (fun r hr => ?_)
  rcases hr with ⟨h1, h2⟩ | ⟨y, y8, h1, hS, last⟩
  · subst h1
    have W5 := wr_with0 h2 hW
    have d5 := wr_d5 (e := e) (pr := pr) (b := b) (t := t) (w := w) h2
    refine br_t (by decide) (xw_put (by omega) (xw_b8n (n := 5) (by decide)) (xw_b8n (n := b) (by omega)) ?_)
    dsimp only
    rw [hc, k1, k2]
    refine ⟨hin, pk_eq (wk b) 0 (fun z => ?_) (fun z => ⟨hin, pk_eq (wk b) 1 (fun y => ⟨hin, ?_⟩) (fun y => ⟨hin, ?_⟩)⟩)⟩
    · refine xw_put (by omega) (xw_b8n (n := 7) (by decide)) (xw_b8n (n := 0) (by decide)) ?_
      have := wr_d5h (e := e) (pr := pr) (w := w) (b := b) (t := 0) (S := wr_z)
      exact hC _ _ _ _ _ _ _ _ _ _ _ hR (wr_halt z W5) (by omega)
    · refine xw_want (k := 2) (by omega) (by decide) (by omega) (ms_vs (by omega)) ?_
      have := wr_d5g (w := w) (t := 0) (S := wr_z) hg b8
      exact hC _ _ _ _ _ _ _ _ _ _ _ (wr_RW_push (k := 2) (S := wr_z) hR (by omega) rfl) (wr_go hg y W5) (by omega)
    · rw [show nI (wk b) - 2 = nI (wk b - 2) from pk_sub (b := 2) (by omega)]
      refine xw_open (by omega) (by omega) (xw_b8n (n := 2) (by decide)) (xw_b8n (by omega)) xw_b8m ?_
      dsimp only
      refine xw_want (k := 4) (b := 0) (r := 0) (by omega) (by decide) (by decide) (ms_vs (n := 0) (by decide)) ?_
      dsimp only
      refine ⟨hin, ?_⟩
      rw [k3]
      refine xw_want (k := 2) (by omega) (by decide) (by omega) (ms_vs (by omega)) ?_
      dsimp only
      refine xw_want (k := 3) (b := 0) (r := 0) (by omega) (by decide) (by decide) (ms_vs (n := 0) (by decide)) ?_
      dsimp only
      refine ⟨hin, ?_⟩
      rw [k2]
      refine xw_want (k := 2) (by omega) (by decide) (by omega) (ms_vs (by omega)) ?_
      have := wr_d5i (w := w) (t := 0) (S := wr_z) hg b8 (by omega)
      exact hC _ _ _ _ _ _ _ _ _ _ _ (wr_RW_push (k := 2) (S := wr_z) (wr_RW_push (k := 3) (b := 0) (t := 0) (S := wr_z) (wr_RW_push (k := 2) (S := wr_z) (wr_RW_push (k := 4) (b := 0) (t := 0) (S := wr_z) hR (by omega) rfl) (by omega) rfl) (by omega) rfl) (by omega) rfl) (wr_if hg (by omega) W5) (by omega)
  · subst h1
    have d1 := wr_d1 y8 hS hW
    refine br_f (nI_pos (by omega)) (xw_open (by omega) (by omega) (xw_b8n (n := 1) (by decide)) (xw_b8n (n := 0) (by decide)) (xw_b8n (n := y) (by omega)) ?_)
    dsimp only
    refine xw_want (k := 0) (r := 0) (by omega) (by decide) (by omega) (ms_vs (n := 0) (by decide)) ?_
    dsimp only
    refine xw_want (k := 4) (b := 0) (r := 0) (by omega) (by decide) (by decide) (ms_vs (n := 0) (by decide)) ?_
    dsimp only
    rw [ms_bit y8, ms_andn]
    refine xw_want (k := 1) (by omega) (by decide) (by omega) (ms_vk _) ?_
    exact hC _ _ _ _ _ _ _ _ _ _ _ (wr_RW_push (k := 1) (t := 0) (S := fun i => S i && !(i == y)) (wr_RW_push (k := 4) (b := 0) (t := 0) (S := wr_z) (wr_RW_push (k := 0) (t := 0) (S := wr_z) hR (by omega) rfl) (by omega) rfl) (by omega) rfl) (wr_with1 hg y8 hS last hW) (by omega)
theorem xw_br56 {post : SX → Prop} {c : Nat → Int32} {tg : Nat → Nat} {k : Int32} (hk : k ≠ 2) (ht : t < 8) : ∀ (s : List Nat) (n away : Nat), n ≤ 32 → wr_RO c tg a_openKind a_openTarget s n → wr_h c tg s k t → (∀ i o : Nat, s[i]? = some o → tg o = t → c o = k → wpX_put (fun u => match u with | (f_known, f_liveSet, f_ordered, f_loopSet, f_mergeSet, f_written, f_codeSize, f_workCount, f_openCount, f_state, f_outCount, f_carriedCount, f_labelCount, a_actKind, a_actNumber, a_wayKind, a_wayA, a_wayB, a_dominating, a_forward, a_parent, a_place, a_code, a_codeArg, a_endOf, a_elseOf, a_workKind, a_workBlock, a_workRest, a_openKind, a_openTarget, a_registers, a_lately, a_visitCount, a_labels) => post (f_known, f_liveSet, f_ordered, f_loopSet, f_mergeSet, f_written, f_codeSize, f_workCount, f_openCount, f_state, f_outCount, f_carriedCount, f_labelCount, a_actKind, a_actNumber, a_wayKind, a_wayA, a_wayB, a_dominating, a_forward, a_parent, a_place, a_code, a_codeArg, a_endOf, a_elseOf, a_workKind, a_workBlock, a_workRest, a_openKind, a_openTarget, a_registers, a_lately, a_visitCount, a_labels)) (f_known, f_liveSet, f_ordered, f_loopSet, f_mergeSet, f_written, f_codeSize, f_workCount, f_openCount, f_state, f_outCount, f_carriedCount, f_labelCount, a_actKind, a_actNumber, a_wayKind, a_wayA, a_wayB, a_dominating, a_forward, a_parent, a_place, a_code, a_codeArg, a_endOf, a_elseOf, a_workKind, a_workBlock, a_workRest, a_openKind, a_openTarget, a_registers, a_lately, a_visitCount, a_labels) 6 (nI (away + i))) → ∀ f, n < f → wX_writeBranch_56 post (nI t) k f_known f_liveSet f_ordered f_loopSet f_mergeSet f_written f_codeSize f_workCount f_openCount f_state f_outCount f_carriedCount f_labelCount a_actKind a_actNumber a_wayKind a_wayA a_wayB a_dominating a_forward a_parent a_place a_code a_codeArg a_endOf a_elseOf a_workKind a_workBlock a_workRest a_openKind a_openTarget a_registers a_lately a_visitCount a_labels f (nI away) (nI n - 1) := by
  intro s
  induction s with
  | nil =>
    intro n away _ _ h
    obtain ⟨o, h1, _⟩ := h
    exact absurd h1 (by simp)
  | cons o s ih =>
    intro n away n32 hr hh hp f hf
    obtain ⟨m, m1, m2, m3, m4⟩ := hr
    subst m1
    obtain ⟨f, rfl⟩ : ∃ f', f = f' + 1 := ⟨f - 1, by omega⟩
    rw [nI_pred]
    have hc : (nI m).toNatClampNeg = m := nI_clamp (by omega)
    have hin := vp_in_nI (n := m) (N := 32) (by omega) (by decide)
    have go : ¬ (c o = k ∧ tg o = t) → wX_writeBranch_56 post (nI t) k f_known f_liveSet f_ordered f_loopSet f_mergeSet f_written f_codeSize f_workCount f_openCount f_state f_outCount f_carriedCount f_labelCount a_actKind a_actNumber a_wayKind a_wayA a_wayB a_dominating a_forward a_parent a_place a_code a_codeArg a_endOf a_elseOf a_workKind a_workBlock a_workRest a_openKind a_openTarget a_registers a_lately a_visitCount a_labels f (nI away + 1) (nI m + (-1)) := fun z => by
      rw [nI_1 away, show nI m + (-1) = nI m - 1 from (Int32.sub_eq_add_neg _ _).symm]
      refine ih m (away + 1) (by omega) m4 ?_ (fun i o' q1 q2 q3 => ?_) f (by omega)
      · obtain ⟨o', q1, q2, q3⟩ := hh
        rcases List.mem_cons.mp q1 with q | q
        · subst q; exact absurd ⟨q2, q3⟩ z
        · exact ⟨o', q, q2, q3⟩
      · have := hp (i + 1) o' (by simpa using q1) q2 q3
        rwa [show away + (i + 1) = away + 1 + i by omega] at this
    refine br_f (nI_pos (by omega)) ⟨hin, ?_⟩
    rw [hc, m2]
    refine br_c (fun z => ⟨hin, ?_⟩) (fun z => nm_e (nm_e (go fun q => z q.1)))
    obtain ⟨m5, m6⟩ := m3 (z ▸ hk)
    rw [m5]
    refine pk_eq (tg o) t (fun y => ?_) (fun y => nm_e (nm_e (go fun q => y q.2)))
    exact hp 0 o rfl y z
theorem xw_branch {post : SX → Prop} (hg : wr_Gr e pr p A B wk) (hd : ∀ b, b < 8 → a_dominating b = ms_k (gr_D e b)) (hR : wr_RW a_workKind a_workBlock a_workRest w nw) (hW : wr_W e pr p A B wk a_openKind a_openTarget no a_code a_codeArg sz ((2, b, t, S) :: w)) (hN : wr_p e pr 1 ((2, b, t, S) :: w) ≤ N) (hC : ∀ (w' : List wr_It) (nw no sz : Nat) (a_code a_codeArg a_workKind a_workBlock a_workRest a_openKind a_openTarget : Nat → Int32), wr_RW a_workKind a_workBlock a_workRest w' nw → wr_W e pr p A B wk a_openKind a_openTarget no a_code a_codeArg sz w' → wr_p e pr 1 w' < N → post (f_known, ms_k (gr_L e), f_ordered, ms_k (gr_H e), ms_k (gr_M e), f_written, nI sz, nI nw, nI no, f_state, f_outCount, f_carriedCount, f_labelCount, a_actKind, a_actNumber, a_wayKind, a_wayA, a_wayB, a_dominating, a_forward, a_parent, a_place, a_code, a_codeArg, a_endOf, a_elseOf, a_workKind, a_workBlock, a_workRest, a_openKind, a_openTarget, a_registers, a_lately, a_visitCount, a_labels)) : wpX_writeBranch post (f_known, ms_k (gr_L e), f_ordered, ms_k (gr_H e), ms_k (gr_M e), f_written, nI sz, nI nw, nI no, f_state, f_outCount, f_carriedCount, f_labelCount, a_actKind, a_actNumber, a_wayKind, a_wayA, a_wayB, a_dominating, a_forward, a_parent, a_place, a_code, a_codeArg, a_endOf, a_elseOf, a_workKind, a_workBlock, a_workRest, a_openKind, a_openTarget, a_registers, a_lately, a_visitCount, a_labels) (nI b) (nI t) := by
  obtain ⟨bd1, bd2, bd3⟩ := wr_bd hW
  have ln := wr_RW_len _ _ hR
  rw [List.length_cons] at bd3
  have hW' := hW
  obtain ⟨G, tg, g0, j, r⟩ := hW'
  obtain ⟨x2, v⟩ := wr_V2 j.2.2.2.2.2.2.2.1
  have b8 := x2.1.1
  have t8 := x2.2.1
  have hc : (nI b).toNatClampNeg = b := nI_clamp (by omega)
  have d2 := wr_d2b (e := e) (pr := pr) (w := w) (b := b) (t := t) (S := S)
  have rl := wr_RO_len _ _ r
  have away : ∀ k : Int32, k = 0 ∨ k = 1 → wr_h a_code tg (wr_S a_code sz) k t → wX_writeBranch_43 post (nI t) k f_known (ms_k (gr_L e)) f_ordered (ms_k (gr_H e)) (ms_k (gr_M e)) f_written (nI sz) (nI nw) (nI no) f_state f_outCount f_carriedCount f_labelCount a_actKind a_actNumber a_wayKind a_wayA a_wayB a_dominating a_forward a_parent a_place a_code a_codeArg a_endOf a_elseOf a_workKind a_workBlock a_workRest a_openKind a_openTarget a_registers a_lately a_visitCount a_labels := fun k hk hh => by
    unfold wX_writeBranch_43
    refine nm_e ⟨no + 1, ?_⟩
    refine xw_br56 (away := 0) (by rcases hk with hk | hk <;> rw [hk] <;> decide) t8 (wr_S a_code sz) no (by omega) r hh (fun i o q1 q2 q3 => ?_) (no + 1) (by omega)
    have il : i < (wr_S a_code sz).length := by
      rw [List.getElem?_eq_some_iff] at q1
      exact q1.1
    rw [Nat.zero_add]
    exact xw_put (by omega) (xw_b8n (n := 6) (by decide)) (xw_b8n (by omega)) (hC _ _ _ _ _ _ _ _ _ _ _ hR (wr_br1 g0 j r q1 q2 (by rw [q3]; exact hk)) (by omega))
  unfold wpX_writeBranch
  dsimp only
  refine ⟨vp_in_nI b8 (by decide), ?_⟩
  rw [hc, hd b b8]
  refine xw_in2 t8 (fun z => br_t rfl (xw_in t8 (fun y => ?_) (fun y => ?_))) (fun z => br_f (by decide) ?_)
  · have hF : gr_F e b t = true := gr_F_i.mpr ⟨x2.1.2.1, x2.2.2, z⟩
    have := wr_d2a (pr := pr) (w := w) (S := S) hF y
    exact xw_want (k := 0) (r := 0) (by omega) (by decide) (by omega) (ms_vs (n := 0) (by decide)) (hC _ _ _ _ _ _ _ _ _ _ _ (wr_RW_push (k := 0) (t := 0) (S := wr_z) hR (by omega) rfl) (wr_br0 hg z y hW) (by omega))
  · unfold wX_writeBranch_34
    exact br_t rfl (away 1 (Or.inr rfl) (wr_2m hg.1 hg.2.1 x2 z y))
  · unfold wX_writeBranch_34
    exact br_f (by decide) (away 0 (Or.inl rfl) (wr_2b x2 z))
end
end
section
/-! the ends; the whole writing -/
section
variable {f_known f_liveSet f_ordered f_loopSet f_mergeSet f_written f_codeSize f_workCount f_openCount f_state f_outCount f_carriedCount f_labelCount : Int32} {a_actKind a_actNumber a_wayKind a_wayA a_wayB a_dominating a_forward a_parent a_place a_code a_codeArg a_endOf a_elseOf a_workKind a_workBlock a_workRest a_openKind a_openTarget a_registers a_lately a_visitCount a_labels : Nat → Int32}
variable {e : Nat → Nat → Bool} {pr p A B wk : Nat → Nat} {sz no nw : Nat}
theorem xw_me4 {post : SX → Prop} (h4 : ∀ q, q < sz → a_code q = 4 → ∃ o s, wr_S a_code q = o :: s) (h3 : ∀ q, q < sz → a_code q = 3 → ∃ o s, wr_S a_code q = o :: s) (hl : ∀ q, q ≤ sz → (wr_S a_code q).length ≤ 23) (s78 : sz ≤ 78)
    (hp : ∀ (a_endOf a_elseOf a_labels : Nat → Int32), wr_E 4 a_code sz a_endOf → wr_E 3 a_code sz a_elseOf → post (f_known, f_liveSet, f_ordered, f_loopSet, f_mergeSet, f_written, nI sz, f_workCount, f_openCount, f_state, f_outCount, f_carriedCount, f_labelCount, a_actKind, a_actNumber, a_wayKind, a_wayA, a_wayB, a_dominating, a_forward, a_parent, a_place, a_code, a_codeArg, a_endOf, a_elseOf, a_workKind, a_workBlock, a_workRest, a_openKind, a_openTarget, a_registers, a_lately, a_visitCount, a_labels)) :
    ∀ d i n (a_endOf a_elseOf a_labels : Nat → Int32), i + d = sz → wr_RL a_labels (wr_S a_code i) n → wr_E 4 a_code i a_endOf → wr_E 3 a_code i a_elseOf → wX_matchEnds_4 post f_known f_liveSet f_ordered f_loopSet f_mergeSet f_written (nI sz) f_workCount f_openCount f_state f_outCount f_carriedCount f_labelCount (d + 1) (nI n) (nI i) a_actKind a_actNumber a_wayKind a_wayA a_wayB a_dominating a_forward a_parent a_place a_code a_codeArg a_endOf a_elseOf a_workKind a_workBlock a_workRest a_openKind a_openTarget a_registers a_lately a_visitCount a_labels := by
  intro d
  induction d with
  | zero =>
    intro i n eo el lb hi hR E4 E3
    have : i = sz := by omega
    subst this
    exact br_t (nI_le (Nat.le_refl _) (by omega)) (hp eo el lb E4 E3)
  | succ d ih =>
    intro i n eo el lb hi hR E4 E3
    have hc : (nI i).toNatClampNeg = i := nI_clamp (by omega)
    have hin := vp_in_nI (n := i) (N := 128) (by omega) (by decide)
    have nl := wr_RL_len _ _ hR
    have nb := hl i (by omega)
    refine br_f (nI_ge (by omega) (by omega)) ⟨hin, ?_⟩
    rw [hc]
    refine br_c (fun z => ⟨hin, br_c (fun y => ?_) (fun y => ⟨hin, br_c (fun x => ?_) (fun x => ?_)⟩)⟩) (fun z => ?_)
    · obtain ⟨o, s, es⟩ := h3 i (by omega) y
      have hR' := hR
      rw [es] at hR'
      obtain ⟨m, m1, m2, m3⟩ := hR'
      have ob := (wr_S_lt i o (by rw [es]; exact List.mem_cons_self)).1
      subst m1
      rw [nI_pred, nI_clamp (show m < 2 ^ 31 by omega), m2, nI_clamp (show o < 2 ^ 31 by omega), ms_vb (show i < 128 by omega)]
      refine ⟨vp_in_nI (by omega) (by decide), vp_in_nI (by omega) (by decide), nm_e (nm_r (nI_1 i) (ih (i + 1) (m + 1) _ _ _ (by omega) ?_ ?_ ?_))⟩
      · rw [wr_S_n z (by rw [y]; decide)]; exact hR
      · exact wr_E_no E4 (by rw [y]; decide)
      · exact wr_E_up E3 y es
    · obtain ⟨o, s, es⟩ := h4 i (by omega) x
      have hR' := hR
      rw [es] at hR'
      obtain ⟨m, m1, m2, m3⟩ := hR'
      have ob := (wr_S_lt i o (by rw [es]; exact List.mem_cons_self)).1
      subst m1
      refine nm_r (pk_m1 m) ?_
      rw [nI_clamp (show m < 2 ^ 31 by omega), m2, nI_clamp (show o < 2 ^ 31 by omega), ms_vb (show i < 128 by omega)]
      refine ⟨vp_in_nI (by omega) (by decide), vp_in_nI (by omega) (by decide), nm_e (nm_r (nI_1 i) (ih (i + 1) m _ _ _ (by omega) ?_ ?_ ?_))⟩
      · rw [wr_S_e x, es]; exact m3
      · exact wr_E_up E4 x es
      · exact wr_E_no E3 (by rw [x]; decide)
    · refine nm_r (nI_1 i) (ih (i + 1) n _ _ _ (by omega) ?_ (wr_E_no E4 x) (wr_E_no E3 y))
      rw [wr_S_n z x]; exact hR
    · rw [nI_clamp (show n < 2 ^ 31 by omega), ms_vb (show i < 128 by omega)]
      refine ⟨vp_in_nI (by omega) (by decide), nm_e (nm_r (nI_1 n) (nm_r (nI_1 i) (ih (i + 1) (n + 1) _ _ _ (by omega) ?_ (wr_E_no E4 fun q => z (by rw [q]; decide)) (wr_E_no E3 fun q => z (by rw [q]; decide)))))⟩
      rw [wr_S_o z]; exact wr_RL_push hR
theorem xw_w37 {post : SX → Prop} (hg : wr_Gr e pr p A B wk) (hw : wy_R wk A B a_wayKind a_wayA a_wayB) (hd : ∀ b, b < 8 → a_dominating b = ms_k (gr_D e b)) (hpr : ∀ c b, c < 8 → b < 8 → (a_parent c = nI b ↔ pr c = b)) (hpl : ∀ m, m < 8 → gr_L e m = true → a_place m = nI (p m) ∧ p m < 8)
    (hp : ∀ (nw no sz : Nat) (a_code a_codeArg a_endOf a_elseOf a_workKind a_workBlock a_workRest a_openKind a_openTarget a_labels : Nat → Int32), wr_OK wk A B a_code a_codeArg a_endOf a_elseOf sz → post (f_known, ms_k (gr_L e), f_ordered, ms_k (gr_H e), ms_k (gr_M e), f_written, nI sz, nI nw, nI no, f_state, f_outCount, f_carriedCount, f_labelCount, a_actKind, a_actNumber, a_wayKind, a_wayA, a_wayB, a_dominating, a_forward, a_parent, a_place, a_code, a_codeArg, a_endOf, a_elseOf, a_workKind, a_workBlock, a_workRest, a_openKind, a_openTarget, a_registers, a_lately, a_visitCount, a_labels)) :
    ∀ (f : Nat) (w : List wr_It) (rd nw no sz : Nat) (a_code a_codeArg a_workKind a_workBlock a_workRest a_openKind a_openTarget : Nat → Int32), wr_RW a_workKind a_workBlock a_workRest w nw → wr_W e pr p A B wk a_openKind a_openTarget no a_code a_codeArg sz w → wr_p e pr 1 w < f → rd + wr_p e pr 1 w ≤ 100 → wX_write_37 post f (nI rd) f_known (ms_k (gr_L e)) f_ordered (ms_k (gr_H e)) (ms_k (gr_M e)) f_written (nI sz) (nI nw) (nI no) f_state f_outCount f_carriedCount f_labelCount a_actKind a_actNumber a_wayKind a_wayA a_wayB a_dominating a_forward a_parent a_place a_code a_codeArg a_endOf a_elseOf a_workKind a_workBlock a_workRest a_openKind a_openTarget a_registers a_lately a_visitCount a_labels := by
  intro f
  induction f with
  | zero => intro w rd nw no sz c g wK wB wR oK oT _ _ h; omega
  | succ f ih =>
    intro w rd nw no sz c g wK wB wR oK oT hR hW hf hr
    obtain ⟨bd1, bd2, bd3⟩ := wr_bd hW
    have ln := wr_RW_len _ _ hR
    refine br_f (nI_ge (b := 256) (by omega) (by decide)) ?_
    cases w with
    | nil =>
      have n0 : nw = 0 := hR
      subst n0
      refine br_t (by decide) ?_
      unfold wX_write_170
      obtain ⟨G, tg, g0, j, r⟩ := hW
      have j4 := j.2.2.2.1
      have j5 := j.2.2.2.2.1
      have j9 := j.2.2.2.2.2.2.2.2.1
      refine ⟨sz + 1, ?_⟩
      refine xw_me4 (a_code := c) (fun q a1 a2 => ?_) (fun q a1 a2 => ?_) j9 (by omega) (fun eo el lb E4 E3 => hp _ _ _ _ _ _ _ _ _ _ _ _ _ (wr_fin ⟨G, tg, g0, j, r⟩ E4 E3)) sz 0 0 a_endOf a_elseOf a_labels (by omega) rfl wr_E_0 wr_E_0
      · obtain ⟨o, s, a3, _⟩ := j4 q a1 a2
        exact ⟨o, s, a3⟩
      · obtain ⟨o, s, a3, _⟩ := j5 q a1 a2
        exact ⟨o, s, a3⟩
    | cons it w =>
      obtain ⟨k, b, t, S⟩ := it
      obtain ⟨m, m1, k4, m2, m3, m4, m5⟩ := hR
      have k4 : k ≤ 4 := k4
      have m2 : wK m = nI k := m2
      have m3 : wB m = nI b := m3
      have m4 : wR m = (if k = 1 then ms_k S else nI t) := m4
      subst m1
      rw [List.length_cons] at ln bd3
      have hc : (nI m).toNatClampNeg = m := nI_clamp (by omega)
      have hin := vp_in_nI (n := m) (N := 96) (by omega) (by decide)
      have hC : ∀ (w' : List wr_It) (nw no sz : Nat) (a_code a_codeArg a_workKind a_workBlock a_workRest a_openKind a_openTarget : Nat → Int32), wr_RW a_workKind a_workBlock a_workRest w' nw → wr_W e pr p A B wk a_openKind a_openTarget no a_code a_codeArg sz w' → wr_p e pr 1 w' < wr_p e pr 1 ((k, b, t, S) :: w) → ∀ x1 : Int32, x1 = nI rd + 1 → wX_write_37 post f x1 f_known (ms_k (gr_L e)) f_ordered (ms_k (gr_H e)) (ms_k (gr_M e)) f_written (nI sz) (nI nw) (nI no) f_state f_outCount f_carriedCount f_labelCount a_actKind a_actNumber a_wayKind a_wayA a_wayB a_dominating a_forward a_parent a_place a_code a_codeArg a_endOf a_elseOf a_workKind a_workBlock a_workRest a_openKind a_openTarget a_registers a_lately a_visitCount a_labels := by
        intro w' nw' no' sz' c' g' wK' wB' wR' oK' oT' q1 q2 q3
        exact nm_r (nI_1 rd) (ih w' (rd + 1) nw' no' sz' c' g' wK' wB' wR' oK' oT' q1 q2 (by omega) (by omega))
      refine br_f (nI_nle (by omega) (by omega)) (nm_r (nI_pred m) ⟨hin, nm_r (e' := nI k) (by rw [hc]; exact m2) ⟨hin, nm_r (e' := nI b) (by rw [hc]; exact m3) ⟨hin, nm_r (e' := if k = 1 then ms_k S else nI t) (by rw [hc]; exact m4) ?_⟩⟩⟩)
      have kk : k = 0 ∨ k = 1 ∨ k = 2 ∨ k = 3 ∨ k = 4 := by omega
      rcases kk with kk | kk | kk | kk | kk <;> subst kk
      · exact br_t rfl (xw_tree hg hpr m5 hW (Nat.le_refl _) hC)
      · rw [if_pos rfl]
        exact br_f (by decide) (br_t rfl (xw_within hg hw hpl m5 hW (Nat.le_refl _) hC))
      · rw [if_neg (by decide)]
        exact br_f (by decide) (br_f (by decide) (br_t rfl (xw_branch hg hd m5 hW (Nat.le_refl _) hC)))
      · refine br_f (by decide) (br_f (by decide) (br_f (by decide) (br_t rfl ?_)))
        exact xw_put (by omega) (xw_b8n (n := 3) (by decide)) (xw_b8n (n := 0) (by decide)) (hC _ _ _ _ _ _ _ _ _ _ _ m5 (wr_else hW) wr_d3)
      · refine br_f (by decide) (br_f (by decide) (br_f (by decide) (br_f (by decide) ?_)))
        obtain ⟨m', e1, hW'⟩ := wr_end hW
        subst e1
        refine xw_put (by omega) (xw_b8n (n := 4) (by decide)) (xw_b8n (n := 0) (by decide)) ?_
        exact nm_r (nI_pred m') (hC _ _ _ _ _ _ _ _ _ _ _ m5 hW' wr_d4)
theorem xw_write {post : SX → Prop} (hg : wr_Gr e pr p A B wk) (hw : wy_R wk A B a_wayKind a_wayA a_wayB) (hd : ∀ b, b < 8 → a_dominating b = ms_k (gr_D e b)) (hpr : ∀ c b, c < 8 → b < 8 → (a_parent c = nI b ↔ pr c = b)) (hpl : ∀ m, m < 8 → gr_L e m = true → a_place m = nI (p m) ∧ p m < 8) (h1 : ¬ f_written = 0 → post (f_known, ms_k (gr_L e), f_ordered, ms_k (gr_H e), ms_k (gr_M e), f_written, f_codeSize, f_workCount, f_openCount, f_state, f_outCount, f_carriedCount, f_labelCount, a_actKind, a_actNumber, a_wayKind, a_wayA, a_wayB, a_dominating, a_forward, a_parent, a_place, a_code, a_codeArg, a_endOf, a_elseOf, a_workKind, a_workBlock, a_workRest, a_openKind, a_openTarget, a_registers, a_lately, a_visitCount, a_labels))
    (hp : ∀ (nw no sz : Nat) (a_code a_codeArg a_endOf a_elseOf a_workKind a_workBlock a_workRest a_openKind a_openTarget a_labels : Nat → Int32), wr_OK wk A B a_code a_codeArg a_endOf a_elseOf sz → post (f_known, ms_k (gr_L e), f_ordered, ms_k (gr_H e), ms_k (gr_M e), 1, nI sz, nI nw, nI no, f_state, f_outCount, f_carriedCount, f_labelCount, a_actKind, a_actNumber, a_wayKind, a_wayA, a_wayB, a_dominating, a_forward, a_parent, a_place, a_code, a_codeArg, a_endOf, a_elseOf, a_workKind, a_workBlock, a_workRest, a_openKind, a_openTarget, a_registers, a_lately, a_visitCount, a_labels)) : wpX_write post (f_known, ms_k (gr_L e), f_ordered, ms_k (gr_H e), ms_k (gr_M e), f_written, f_codeSize, f_workCount, f_openCount, f_state, f_outCount, f_carriedCount, f_labelCount, a_actKind, a_actNumber, a_wayKind, a_wayA, a_wayB, a_dominating, a_forward, a_parent, a_place, a_code, a_codeArg, a_endOf, a_elseOf, a_workKind, a_workBlock, a_workRest, a_openKind, a_openTarget, a_registers, a_lately, a_visitCount, a_labels) := by
  refine br_c (fun _ => ?_) h1
  refine xw_want (n := 0) (k := 0) (b := 0) (r := 0) (by decide) (by decide) (by decide) (ms_vs (n := 0) (by decide)) ?_
  have W0 := wr_ini (e := e) (pr := pr) (p := p) (A := A) (B := B) (wk := wk) (oK := a_openKind) (oT := a_openTarget) (c := a_code) (g := a_codeArg)
  have b0 := (wr_bd W0).1
  exact ⟨80, xw_w37 hg hw hd hpr hpl hp 80 [(0, 0, 0, wr_z)] 0 1 0 0 a_code a_codeArg _ _ _ a_openKind a_openTarget (wr_RW_push (k := 0) (b := 0) (t := 0) (S := wr_z) rfl (by omega) rfl) W0 (by omega) (by omega)⟩
end
end
section
/-! from a branch to the next action: the way through the code, over an abstract run W -/
def xr_St (W : (Int32 → SX → Prop) → Nat → Nat → Nat → Nat → (Nat → Int32) → Prop) (c g eo : Nat → Int32) : Prop :=
  (∀ post f q rd lc lb, q < 128 → lc < 32 → rd < 10368 → (c q = 0 ∨ c q = 1) → W post f (q + 1) (rd + 1) (lc + 1) (upd lb lc (nI q)) → W post (f + 1) q rd lc lb) ∧
  (∀ post f q rd lc lb i o, q < 128 → lc ≤ 32 → i < lc → rd < 10368 → c q = 6 → g q = nI i → lb (lc - 1 - i) = nI o → o < 128 → c o = 0 → W post f (o + 1) (rd + 1) (lc - 1 - i + 1) lb → W post (f + 1) q rd lc lb) ∧
  (∀ post f q rd lc lb i o x, q < 128 → lc ≤ 32 → i < lc → rd < 10368 → c q = 6 → g q = nI i → lb (lc - 1 - i) = nI o → o < 128 → c o = 1 → eo o = nI x → W post f (x + 1) (rd + 1) (lc - 1 - i) lb → W post (f + 1) q rd lc lb)
def xr_R (W : (Int32 → SX → Prop) → Nat → Nat → Nat → Nat → (Nat → Int32) → Prop) (c g : Nat → Int32) (sz : Nat) (G : Nat → Nat → Nat → Prop) (q t rd lc : Nat) (lb : Nat → Int32) (n : Nat) : Prop :=
  ∃ (q' lc' n' : Nat) (lb' : Nat → Int32), n' ≤ n ∧ q' < sz ∧ c q' = 5 ∧ g q' = nI t ∧ G (q' + 1) 5 t ∧ wr_RL lb' (wr_S c q') lc' ∧ ∀ post f, W post f q' (rd + n') lc' lb' → W post (f + n') q rd lc lb
section
variable {W : (Int32 → SX → Prop) → Nat → Nat → Nat → Nat → (Nat → Int32) → Prop} {c g eo el : Nat → Int32} {sz : Nat} {G : Nat → Nat → Nat → Prop} {tg wk A B : Nat → Nat}
theorem xr_mono {q t rd lc n m : Nat} {lb : Nat → Int32} (h : xr_R W c g sz G q t rd lc lb n) (hm : n ≤ m) : xr_R W c g sz G q t rd lc lb m := by
  obtain ⟨q', lc', n', lb', h1, h2⟩ := h
  exact ⟨q', lc', n', lb', by omega, h2⟩
theorem xr_more {q q1 t rd lc lc1 n : Nat} {lb lb1 : Nat → Int32} (h : xr_R W c g sz G q1 t (rd + 1) lc1 lb1 n) (s : ∀ post f, W post f q1 (rd + 1) lc1 lb1 → W post (f + 1) q rd lc lb) : xr_R W c g sz G q t rd lc lb (n + 1) := by
  obtain ⟨q', lc', n', lb', h1, h2, h3, h4, h5, h6, h7⟩ := h
  refine ⟨q', lc', n' + 1, lb', by omega, h2, h3, h4, h5, h6, fun post f hw => ?_⟩
  refine s post (f + n') (h7 post f ?_)
  rwa [show rd + 1 + n' = rd + (n' + 1) by omega]
theorem xr_w (St : xr_St W c g eo) (Cl : ∀ q k x, G q k x → wr_Cl wk A c g tg sz G q k x) (hl : ∀ q, q ≤ sz → (wr_S c q).length ≤ 23) (s78 : sz ≤ 78) {x : Nat} : ∀ d q rd lc (lb : Nat → Int32), q + d = sz → G q 1 x → wr_RL lb (wr_S c q) lc → rd + d ≤ 10368 → xr_R W c g sz G q x rd lc lb d := by
  intro d
  induction d with
  | zero =>
    intro q rd lc lb hq hG _ _
    have := ((Cl q 1 x hG).2.1 rfl).1
    omega
  | succ d ih =>
    intro q rd lc lb hq hG hR hr
    have ll := wr_RL_len _ _ hR
    have lq := hl q (by omega)
    rcases ((Cl q 1 x hG).2.1 rfl).2 with ⟨h1, h2⟩ | ⟨h1, h2, h3⟩
    · refine xr_more (ih (q + 1) (rd + 1) (lc + 1) (upd lb lc (nI q)) (by omega) h2 ?_ (by omega)) fun post f hw => St.1 post f q rd lc lb (by omega) (by omega) (by omega) (Or.inr h1) hw
      rw [wr_S_o (by rw [h1]; decide)]
      exact wr_RL_push hR
    · exact ⟨q, lc, 0, lb, by omega, by omega, h1, h2, h3, hR, fun post f hw => hw⟩
theorem xr_t (St : xr_St W c g eo) (Cl : ∀ q k x, G q k x → wr_Cl wk A c g tg sz G q k x) (hl : ∀ q, q ≤ sz → (wr_S c q).length ≤ 23) (s78 : sz ≤ 78) {x q rd lc : Nat} {lb : Nat → Int32} (hq : q ≤ sz) (hG : G q 0 x) (hR : wr_RL lb (wr_S c q) lc) (hr : rd + 80 ≤ 10368) : xr_R W c g sz G q x rd lc lb 78 := by
  have ll := wr_RL_len _ _ hR
  have lq := hl q (by omega)
  rcases (Cl q 0 x hG).1 rfl with ⟨h1, h2, h3⟩ | h
  · refine xr_mono (xr_more (xr_w St Cl hl s78 (sz - (q + 1)) (q + 1) (rd + 1) (lc + 1) (upd lb lc (nI q)) (by omega) h3 ?_ (by omega)) fun post f hw => St.1 post f q rd lc lb (by omega) (by omega) (by omega) (Or.inl h2) hw) (by omega)
    rw [wr_S_o (by rw [h2]; decide)]
    exact wr_RL_push hR
  · exact xr_mono (xr_w St Cl hl s78 (sz - q) q rd lc lb (by omega) h hR (by omega)) (by omega)
theorem xr_b (St : xr_St W c g eo) (Cl : ∀ q k x, G q k x → wr_Cl wk A c g tg sz G q k x) (hl : ∀ q, q ≤ sz → (wr_S c q).length ≤ 23) (s78 : sz ≤ 78)
    (j3 : ∀ o, o < sz → c o = 0 → G (o + 1) 1 (tg o)) (j4 : ∀ o, o < sz → c o = 1 → ∃ q, q < sz ∧ eo o = nI q ∧ wr_S c (q + 1) = wr_S c o ∧ G (q + 1) 0 (tg o))
    {x q rd lc : Nat} {lb : Nat → Int32} (hq : q ≤ sz) (hG : G q 2 x) (hR : wr_RL lb (wr_S c q) lc) (hr : rd + 81 ≤ 10368) : xr_R W c g sz G q x rd lc lb 79 := by
  have ll := wr_RL_len _ _ hR
  have lq := hl q (by omega)
  rcases (Cl q 2 x hG).2.2.1 rfl with h | ⟨h1, h2, i, o, h3, h4, h5, h6⟩
  · exact xr_mono (xr_t St Cl hl s78 hq h hR (by omega)) (by omega)
  · obtain ⟨a1, a2, pre, s', a3, a4⟩ := wr_RL_get _ _ _ _ hR h3
    have ob := (wr_S_lt q o (List.mem_of_getElem? h3)).1
    have es := wr_S_suf q pre o s' a3
    subst es
    rcases h6 with h6 | h6
    · have hG1 := j3 o (by omega) h6
      rw [h5] at hG1
      refine xr_mono (xr_more (xr_w St Cl hl s78 (sz - (o + 1)) (o + 1) (rd + 1) (lc - 1 - i + 1) lb (by omega) hG1 ?_ (by omega)) fun post f hw => St.2.1 post f q rd lc lb i o (by omega) (by omega) a1 (by omega) h2 h4 a2 (by omega) h6 hw) (by omega)
      rw [wr_S_o (by rw [h6]; decide)]
      exact ⟨_, rfl, a2, a4⟩
    · obtain ⟨y, y1, y2, y3, y4⟩ := j4 o (by omega) h6
      rw [h5] at y4
      refine xr_mono (xr_more (xr_t St Cl hl s78 (q := y + 1) (rd := rd + 1) (lc := lc - 1 - i) (lb := lb) (by omega) y4 ?_ (by omega)) fun post f hw => St.2.2 post f q rd lc lb i o y (by omega) (by omega) a1 (by omega) h2 h4 a2 (by omega) h6 y2 hw) (by omega)
      rw [y3]; exact a4
end
end
section
/-! one step of the component's run -/
section
variable {f_known f_liveSet f_ordered f_loopSet f_mergeSet f_written f_codeSize f_workCount f_openCount f_state f_outCount f_carriedCount f_labelCount : Int32} {a_actKind a_actNumber a_wayKind a_wayA a_wayB a_dominating a_forward a_parent a_place a_code a_codeArg a_endOf a_elseOf a_workKind a_workBlock a_workRest a_openKind a_openTarget a_registers a_lately a_visitCount a_labels : Nat → Int32}
variable {q lc rd f : Nat}
theorem xs_open {post : Int32 → SX → Prop} (hq : q < 128) (hl : lc < 32) (hc : a_code q = 0 ∨ a_code q = 1) (hp : post (nI (q + 1)) (f_known, f_liveSet, f_ordered, f_loopSet, f_mergeSet, f_written, f_codeSize, f_workCount, f_openCount, f_state, f_outCount, f_carriedCount, nI (lc + 1), a_actKind, a_actNumber, a_wayKind, a_wayA, a_wayB, a_dominating, a_forward, a_parent, a_place, a_code, a_codeArg, a_endOf, a_elseOf, a_workKind, a_workBlock, a_workRest, a_openKind, a_openTarget, a_registers, a_lately, a_visitCount, upd a_labels lc (nI q))) : wpX_step post (f_known, f_liveSet, f_ordered, f_loopSet, f_mergeSet, f_written, f_codeSize, f_workCount, f_openCount, f_state, f_outCount, f_carriedCount, nI lc, a_actKind, a_actNumber, a_wayKind, a_wayA, a_wayB, a_dominating, a_forward, a_parent, a_place, a_code, a_codeArg, a_endOf, a_elseOf, a_workKind, a_workBlock, a_workRest, a_openKind, a_openTarget, a_registers, a_lately, a_visitCount, a_labels) (nI q) := by
  have cq : (nI q).toNatClampNeg = q := nI_clamp (by omega)
  have cl : (nI lc).toNatClampNeg = lc := nI_clamp (by omega)
  unfold wpX_step
  dsimp only
  rw [cq, cl, ms_vb hq]
  refine ⟨vp_in_nI hq (by decide), ?_⟩
  rcases hc with hc | hc
  · rw [hc]
    refine nm_e (br_f (by decide) ⟨vp_in_nI hl (by decide), nm_e (nm_r (nI_1 lc) (br_f (by decide) ?_))⟩)
    unfold wX_step_56 wX_step_57
    refine br_t rfl ?_
    rw [nI_1 q]; exact hp
  · rw [hc]
    refine nm_e (br_f (by decide) ⟨vp_in_nI hl (by decide), nm_e (nm_r (nI_1 lc) (br_f (by decide) ?_))⟩)
    unfold wX_step_56 wX_step_57
    refine br_t rfl ?_
    rw [nI_1 q]; exact hp
theorem xs_if {post : Int32 → SX → Prop} {r y : Nat} (hq : q < 128) (hl : lc < 32) (hc : a_code q = 2) (hg : a_codeArg q = nI r) (hr : r < 3) (he : a_elseOf q = nI y) (hp : 0 < a_registers r → post (nI (q + 1)) (f_known, f_liveSet, f_ordered, f_loopSet, f_mergeSet, f_written, f_codeSize, f_workCount, f_openCount, f_state, f_outCount, f_carriedCount, nI (lc + 1), a_actKind, a_actNumber, a_wayKind, a_wayA, a_wayB, a_dominating, a_forward, a_parent, a_place, a_code, a_codeArg, a_endOf, a_elseOf, a_workKind, a_workBlock, a_workRest, a_openKind, a_openTarget, a_registers, a_lately, a_visitCount, upd a_labels lc (nI q))) (hn : ¬ 0 < a_registers r → post (nI (y + 1)) (f_known, f_liveSet, f_ordered, f_loopSet, f_mergeSet, f_written, f_codeSize, f_workCount, f_openCount, f_state, f_outCount, f_carriedCount, nI (lc + 1), a_actKind, a_actNumber, a_wayKind, a_wayA, a_wayB, a_dominating, a_forward, a_parent, a_place, a_code, a_codeArg, a_endOf, a_elseOf, a_workKind, a_workBlock, a_workRest, a_openKind, a_openTarget, a_registers, a_lately, a_visitCount, upd a_labels lc (nI q))) : wpX_step post (f_known, f_liveSet, f_ordered, f_loopSet, f_mergeSet, f_written, f_codeSize, f_workCount, f_openCount, f_state, f_outCount, f_carriedCount, nI lc, a_actKind, a_actNumber, a_wayKind, a_wayA, a_wayB, a_dominating, a_forward, a_parent, a_place, a_code, a_codeArg, a_endOf, a_elseOf, a_workKind, a_workBlock, a_workRest, a_openKind, a_openTarget, a_registers, a_lately, a_visitCount, a_labels) (nI q) := by
  have cq : (nI q).toNatClampNeg = q := nI_clamp (by omega)
  have cl : (nI lc).toNatClampNeg = lc := nI_clamp (by omega)
  have cr : (nI r).toNatClampNeg = r := nI_clamp (by omega)
  unfold wpX_step
  dsimp only
  rw [cq, cl, ms_vb hq, hc, hg, cr]
  refine ⟨vp_in_nI hq (by decide), nm_e (br_f (by decide) ⟨vp_in_nI hl (by decide), nm_e (nm_r (nI_1 lc) (br_t rfl ⟨vp_in_nI hq (by decide), vp_in_nI hr (by decide), br_c (fun z => ?_) (fun z => ?_)⟩))⟩)⟩
  · unfold wX_step_56 wX_step_57
    refine br_t rfl ?_
    rw [nI_1 q]; exact hp z
  · unfold wX_step_57
    refine br_f (by decide) ⟨vp_in_nI hq (by decide), ?_⟩
    rw [cq, he, nI_1 y]; exact hn z
theorem xs_lv0 {post : Int32 → SX → Prop} {i o : Nat} (hq : q < 128) (hl : lc ≤ 32) (hi : i < lc) (hc : a_code q = 6) (hg : a_codeArg q = nI i) (hb : a_labels (lc - 1 - i) = nI o) (ho : o < 128) (co : a_code o = 0) (hp : post (nI (o + 1)) (f_known, f_liveSet, f_ordered, f_loopSet, f_mergeSet, f_written, f_codeSize, f_workCount, f_openCount, f_state, f_outCount, f_carriedCount, nI (lc - 1 - i + 1), a_actKind, a_actNumber, a_wayKind, a_wayA, a_wayB, a_dominating, a_forward, a_parent, a_place, a_code, a_codeArg, a_endOf, a_elseOf, a_workKind, a_workBlock, a_workRest, a_openKind, a_openTarget, a_registers, a_lately, a_visitCount, a_labels)) : wpX_step post (f_known, f_liveSet, f_ordered, f_loopSet, f_mergeSet, f_written, f_codeSize, f_workCount, f_openCount, f_state, f_outCount, f_carriedCount, nI lc, a_actKind, a_actNumber, a_wayKind, a_wayA, a_wayB, a_dominating, a_forward, a_parent, a_place, a_code, a_codeArg, a_endOf, a_elseOf, a_workKind, a_workBlock, a_workRest, a_openKind, a_openTarget, a_registers, a_lately, a_visitCount, a_labels) (nI q) := by
  have cq : (nI q).toNatClampNeg = q := nI_clamp (by omega)
  have e1 : nI lc - 1 - nI i = nI (lc - 1 - i) := by
    rw [show nI lc - 1 = nI (lc - 1) from pk_sub (b := 1) (by omega), pk_sub (by omega)]
  unfold wpX_step
  dsimp only
  rw [cq, hc, hg]
  refine ⟨vp_in_nI hq (by decide), nm_e (br_t (by decide) (br_f (by decide) (br_f (by decide) (br_t rfl ⟨vp_in_nI hq (by decide), ?_⟩))))⟩
  unfold wpX_leave
  dsimp only
  refine nm_r e1 ⟨vp_in_nI (by omega) (by decide), ?_⟩
  rw [nI_clamp (show lc - 1 - i < 2 ^ 31 by omega), hb]
  refine nm_e ⟨vp_in_nI ho (by decide), ?_⟩
  rw [nI_clamp (show o < 2 ^ 31 by omega), co]
  refine br_t rfl (nm_r (nI_1 _) ?_)
  rw [nI_1 o]; exact hp
theorem xs_lv1 {post : Int32 → SX → Prop} {i o y : Nat} (hq : q < 128) (hl : lc ≤ 32) (hi : i < lc) (hc : a_code q = 6) (hg : a_codeArg q = nI i) (hb : a_labels (lc - 1 - i) = nI o) (ho : o < 128) (co : a_code o = 1) (hy : a_endOf o = nI y) (hp : post (nI (y + 1)) (f_known, f_liveSet, f_ordered, f_loopSet, f_mergeSet, f_written, f_codeSize, f_workCount, f_openCount, f_state, f_outCount, f_carriedCount, nI (lc - 1 - i), a_actKind, a_actNumber, a_wayKind, a_wayA, a_wayB, a_dominating, a_forward, a_parent, a_place, a_code, a_codeArg, a_endOf, a_elseOf, a_workKind, a_workBlock, a_workRest, a_openKind, a_openTarget, a_registers, a_lately, a_visitCount, a_labels)) : wpX_step post (f_known, f_liveSet, f_ordered, f_loopSet, f_mergeSet, f_written, f_codeSize, f_workCount, f_openCount, f_state, f_outCount, f_carriedCount, nI lc, a_actKind, a_actNumber, a_wayKind, a_wayA, a_wayB, a_dominating, a_forward, a_parent, a_place, a_code, a_codeArg, a_endOf, a_elseOf, a_workKind, a_workBlock, a_workRest, a_openKind, a_openTarget, a_registers, a_lately, a_visitCount, a_labels) (nI q) := by
  have cq : (nI q).toNatClampNeg = q := nI_clamp (by omega)
  have e1 : nI lc - 1 - nI i = nI (lc - 1 - i) := by
    rw [show nI lc - 1 = nI (lc - 1) from pk_sub (b := 1) (by omega), pk_sub (by omega)]
  unfold wpX_step
  dsimp only
  rw [cq, hc, hg]
  refine ⟨vp_in_nI hq (by decide), nm_e (br_t (by decide) (br_f (by decide) (br_f (by decide) (br_t rfl ⟨vp_in_nI hq (by decide), ?_⟩))))⟩
  unfold wpX_leave
  dsimp only
  refine nm_r e1 ⟨vp_in_nI (by omega) (by decide), ?_⟩
  rw [nI_clamp (show lc - 1 - i < 2 ^ 31 by omega), hb]
  refine nm_e ⟨vp_in_nI ho (by decide), ?_⟩
  rw [nI_clamp (show o < 2 ^ 31 by omega), co, hy]
  refine br_f (by decide) ⟨vp_in_nI ho (by decide), ?_⟩
  rw [nI_1 y]; exact hp
theorem xs_halt {post : Int32 → SX → Prop} (hq : q < 128) (hc : a_code q = 7) (hp : post (nI q + 1) (f_known, f_liveSet, f_ordered, f_loopSet, f_mergeSet, f_written, f_codeSize, f_workCount, f_openCount, 1, f_outCount, f_carriedCount, f_labelCount, a_actKind, a_actNumber, a_wayKind, a_wayA, a_wayB, a_dominating, a_forward, a_parent, a_place, a_code, a_codeArg, a_endOf, a_elseOf, a_workKind, a_workBlock, a_workRest, a_openKind, a_openTarget, a_registers, a_lately, a_visitCount, a_labels)) : wpX_step post (f_known, f_liveSet, f_ordered, f_loopSet, f_mergeSet, f_written, f_codeSize, f_workCount, f_openCount, f_state, f_outCount, f_carriedCount, f_labelCount, a_actKind, a_actNumber, a_wayKind, a_wayA, a_wayB, a_dominating, a_forward, a_parent, a_place, a_code, a_codeArg, a_endOf, a_elseOf, a_workKind, a_workBlock, a_workRest, a_openKind, a_openTarget, a_registers, a_lately, a_visitCount, a_labels) (nI q) := by
  have cq : (nI q).toNatClampNeg = q := nI_clamp (by omega)
  unfold wpX_step
  dsimp only
  rw [cq, hc]
  exact ⟨vp_in_nI hq (by decide), nm_e (br_t (by decide) (br_f (by decide) (br_f (by decide) (br_f (by decide) (br_t rfl hp)))))⟩
theorem xs_tired {post : Int32 → SX → Prop} (hq : q < 128) (hc : a_code q = 5) (hp : post (nI q + 1) (f_known, f_liveSet, f_ordered, f_loopSet, f_mergeSet, f_written, f_codeSize, f_workCount, f_openCount, 2, f_outCount, nI 80, f_labelCount, a_actKind, a_actNumber, a_wayKind, a_wayA, a_wayB, a_dominating, a_forward, a_parent, a_place, a_code, a_codeArg, a_endOf, a_elseOf, a_workKind, a_workBlock, a_workRest, a_openKind, a_openTarget, a_registers, a_lately, a_visitCount, a_labels)) : wpX_step post (f_known, f_liveSet, f_ordered, f_loopSet, f_mergeSet, f_written, f_codeSize, f_workCount, f_openCount, f_state, f_outCount, nI 80, f_labelCount, a_actKind, a_actNumber, a_wayKind, a_wayA, a_wayB, a_dominating, a_forward, a_parent, a_place, a_code, a_codeArg, a_endOf, a_elseOf, a_workKind, a_workBlock, a_workRest, a_openKind, a_openTarget, a_registers, a_lately, a_visitCount, a_labels) (nI q) := by
  have cq : (nI q).toNatClampNeg = q := nI_clamp (by omega)
  unfold wpX_step
  dsimp only
  rw [cq, hc]
  exact ⟨vp_in_nI hq (by decide), nm_e (br_t (by decide) (br_f (by decide) (br_f (by decide) (br_f (by decide) (br_f (by decide) (br_t rfl hp))))))⟩
theorem xs_act {post : Int32 → SX → Prop} {k b : Nat} (hq : q < 128) (hk : k < 80) (hc : a_code q = 5) (hg : a_codeArg q = nI b) (hp : wpX_carry (fun u => post (nI (q + 1)) u) (f_known, f_liveSet, f_ordered, f_loopSet, f_mergeSet, f_written, f_codeSize, f_workCount, f_openCount, f_state, f_outCount, nI k, f_labelCount, a_actKind, a_actNumber, a_wayKind, a_wayA, a_wayB, a_dominating, a_forward, a_parent, a_place, a_code, a_codeArg, a_endOf, a_elseOf, a_workKind, a_workBlock, a_workRest, a_openKind, a_openTarget, a_registers, a_lately, a_visitCount, a_labels) (nI b)) : wpX_step post (f_known, f_liveSet, f_ordered, f_loopSet, f_mergeSet, f_written, f_codeSize, f_workCount, f_openCount, f_state, f_outCount, nI k, f_labelCount, a_actKind, a_actNumber, a_wayKind, a_wayA, a_wayB, a_dominating, a_forward, a_parent, a_place, a_code, a_codeArg, a_endOf, a_elseOf, a_workKind, a_workBlock, a_workRest, a_openKind, a_openTarget, a_registers, a_lately, a_visitCount, a_labels) (nI q) := by
  have cq : (nI q).toNatClampNeg = q := nI_clamp (by omega)
  have k8 : ¬ nI k = 80 := fun z => by
    have := (nI_eq (a := k) (b := 80) (by omega) (by decide)).mp z
    omega
  unfold wpX_step
  dsimp only
  rw [cq, hc, hg]
  refine ⟨vp_in_nI hq (by decide), nm_e (br_t (by decide) (br_f (by decide) (br_f (by decide) (br_f (by decide) (br_f (by decide) (br_f k8 ⟨vp_in_nI hq (by decide), ?_⟩))))))⟩
  rw [nI_1 q]
  exact hp
theorem xr_go {post : Int32 → SX → Prop} (hr : rd < 10368) (h : wpX_step (fun r u => match u with | (f_known, f_liveSet, f_ordered, f_loopSet, f_mergeSet, f_written, f_codeSize, f_workCount, f_openCount, f_state, f_outCount, f_carriedCount, f_labelCount, a_actKind, a_actNumber, a_wayKind, a_wayA, a_wayB, a_dominating, a_forward, a_parent, a_place, a_code, a_codeArg, a_endOf, a_elseOf, a_workKind, a_workBlock, a_workRest, a_openKind, a_openTarget, a_registers, a_lately, a_visitCount, a_labels) => ∀ x4 : Int32, x4 = nI rd + 1 → wX_run_80 post f r x4 f_known f_liveSet f_ordered f_loopSet f_mergeSet f_written f_codeSize f_workCount f_openCount f_state f_outCount f_carriedCount f_labelCount a_actKind a_actNumber a_wayKind a_wayA a_wayB a_dominating a_forward a_parent a_place a_code a_codeArg a_endOf a_elseOf a_workKind a_workBlock a_workRest a_openKind a_openTarget a_registers a_lately a_visitCount a_labels) (f_known, f_liveSet, f_ordered, f_loopSet, f_mergeSet, f_written, f_codeSize, f_workCount, f_openCount, 0, f_outCount, f_carriedCount, f_labelCount, a_actKind, a_actNumber, a_wayKind, a_wayA, a_wayB, a_dominating, a_forward, a_parent, a_place, a_code, a_codeArg, a_endOf, a_elseOf, a_workKind, a_workBlock, a_workRest, a_openKind, a_openTarget, a_registers, a_lately, a_visitCount, a_labels) (nI q)) : wX_run_80 post (f + 1) (nI q) (nI rd) f_known f_liveSet f_ordered f_loopSet f_mergeSet f_written f_codeSize f_workCount f_openCount 0 f_outCount f_carriedCount f_labelCount a_actKind a_actNumber a_wayKind a_wayA a_wayB a_dominating a_forward a_parent a_place a_code a_codeArg a_endOf a_elseOf a_workKind a_workBlock a_workRest a_openKind a_openTarget a_registers a_lately a_visitCount a_labels :=
  br_f (nI_ge (b := 10368) hr (by decide)) (br_t rfl h)
theorem xr_end {post : Int32 → SX → Prop} {x y st : Int32} (hs : ¬ st = 0) (hp : post st (f_known, f_liveSet, f_ordered, f_loopSet, f_mergeSet, f_written, f_codeSize, f_workCount, f_openCount, st, f_outCount, f_carriedCount, f_labelCount, a_actKind, a_actNumber, a_wayKind, a_wayA, a_wayB, a_dominating, a_forward, a_parent, a_place, a_code, a_codeArg, a_endOf, a_elseOf, a_workKind, a_workBlock, a_workRest, a_openKind, a_openTarget, a_registers, a_lately, a_visitCount, a_labels)) : wX_run_80 post (f + 1) x y f_known f_liveSet f_ordered f_loopSet f_mergeSet f_written f_codeSize f_workCount f_openCount st f_outCount f_carriedCount f_labelCount a_actKind a_actNumber a_wayKind a_wayA a_wayB a_dominating a_forward a_parent a_place a_code a_codeArg a_endOf a_elseOf a_workKind a_workBlock a_workRest a_openKind a_openTarget a_registers a_lately a_visitCount a_labels :=
  br_c (fun _ => hp) (fun _ => br_f hs hp)
theorem xr_steps : xr_St (fun post f q rd lc lb => wX_run_80 post f (nI q) (nI rd) f_known f_liveSet f_ordered f_loopSet f_mergeSet f_written f_codeSize f_workCount f_openCount 0 f_outCount f_carriedCount (nI lc) a_actKind a_actNumber a_wayKind a_wayA a_wayB a_dominating a_forward a_parent a_place a_code a_codeArg a_endOf a_elseOf a_workKind a_workBlock a_workRest a_openKind a_openTarget a_registers a_lately a_visitCount lb) a_code a_codeArg a_endOf := by
  refine ⟨fun post f q rd lc lb h1 h2 h3 h4 h5 => ?_, fun post f q rd lc lb i o h1 h2 h3 h4 h5 h6 h7 h8 h9 h10 => ?_, fun post f q rd lc lb i o x h1 h2 h3 h4 h5 h6 h7 h8 h9 h10 h11 => ?_⟩
  · exact xr_go h3 (xs_open h1 h2 h4 (nm_r (nI_1 rd) h5))
  · exact xr_go h4 (xs_lv0 h1 h2 h3 h5 h6 h7 h8 h9 (nm_r (nI_1 rd) h10))
  · exact xr_go h4 (xs_lv1 h1 h2 h3 h5 h6 h7 h8 h9 h10 (nm_r (nI_1 rd) h11))
end
end
section
/-! one action, on both sides alike -/
def cr_sh : Nat → (Nat → Int32) → (Nat → Int32)
  | 0, a => a
  | k + 1, a => cr_sh k (upd a (k + 1) (a k))
section
variable {f_known f_liveSet f_ordered f_loopSet f_mergeSet f_written f_codeSize f_workCount f_openCount f_state f_outCount f_carriedCount f_labelCount : Int32} {a_actKind a_actNumber a_wayKind a_wayA a_wayB a_dominating a_forward a_parent a_place a_code a_codeArg a_endOf a_elseOf a_workKind a_workBlock a_workRest a_openKind a_openTarget a_registers a_lately a_visitCount a_labels : Nat → Int32}
theorem cr_putX {post : SX → Prop} {x : Int32} : ∀ (k : Nat) (a_lately : Nat → Int32), k ≤ 7 → post (f_known, f_liveSet, f_ordered, f_loopSet, f_mergeSet, f_written, f_codeSize, f_workCount, f_openCount, f_state, f_outCount + 1, f_carriedCount, f_labelCount, a_actKind, a_actNumber, a_wayKind, a_wayA, a_wayB, a_dominating, a_forward, a_parent, a_place, a_code, a_codeArg, a_endOf, a_elseOf, a_workKind, a_workBlock, a_workRest, a_openKind, a_openTarget, a_registers, upd (cr_sh k a_lately) 0 x, a_visitCount, a_labels) → wX_putOut_3 post x f_known f_liveSet f_ordered f_loopSet f_mergeSet f_written f_codeSize f_workCount f_openCount f_state f_outCount f_carriedCount f_labelCount (k + 1) (nI k) a_actKind a_actNumber a_wayKind a_wayA a_wayB a_dominating a_forward a_parent a_place a_code a_codeArg a_endOf a_elseOf a_workKind a_workBlock a_workRest a_openKind a_openTarget a_registers a_lately a_visitCount a_labels := by
  intro k
  induction k with
  | zero => intro la _ hp; exact br_t (by decide) (nm_e (nm_e hp))
  | succ k ih =>
    intro la hk hp
    refine br_f (nI_nle (by omega) (by omega)) ?_
    rw [nI_pred, nI_clamp (show k < 2 ^ 31 by omega), nI_clamp (show k + 1 < 2 ^ 31 by omega)]
    exact ⟨vp_in_nI (by omega) (by decide), vp_in_nI (by omega) (by decide), nm_e (nm_r (pk_m1 k) (ih _ (by omega) hp))⟩
theorem cr_X {post : SX → Prop} {b kk v : Nat} (hb : b < 8) (hk : a_actKind b = nI kk) (k9 : kk ≤ 9) (hn : 7 ≤ kk → ∃ r, r < 3 ∧ a_actNumber b = nI r) (hv : a_visitCount b = nI v) (v1 : v < 127)
    (hp : post (f_known, f_liveSet, f_ordered, f_loopSet, f_mergeSet, f_written, f_codeSize, f_workCount, f_openCount, f_state, if 4 ≤ kk ∧ kk ≤ 6 then f_outCount + 1 else f_outCount, f_carriedCount + 1, f_labelCount, a_actKind, a_actNumber, a_wayKind, a_wayA, a_wayB, a_dominating, a_forward, a_parent, a_place, a_code, a_codeArg, a_endOf, a_elseOf, a_workKind, a_workBlock, a_workRest, a_openKind, a_openTarget, if kk = 0 then a_registers else if kk ≤ 3 then upd a_registers (kk - 1) (a_registers (kk - 1) + a_actNumber b) else if kk ≤ 6 then a_registers else upd a_registers (kk - 7) (a_registers (a_actNumber b).toNatClampNeg), if 4 ≤ kk ∧ kk ≤ 6 then upd (cr_sh 7 a_lately) 0 (a_registers (kk - 4)) else a_lately, upd a_visitCount b (nI (v + 1)), a_labels)) : wpX_carry post (f_known, f_liveSet, f_ordered, f_loopSet, f_mergeSet, f_written, f_codeSize, f_workCount, f_openCount, f_state, f_outCount, f_carriedCount, f_labelCount, a_actKind, a_actNumber, a_wayKind, a_wayA, a_wayB, a_dominating, a_forward, a_parent, a_place, a_code, a_codeArg, a_endOf, a_elseOf, a_workKind, a_workBlock, a_workRest, a_openKind, a_openTarget, a_registers, a_lately, a_visitCount, a_labels) (nI b) := by
  have hc : (nI b).toNatClampNeg = b := nI_clamp (by omega)
  have hin := vp_in_nI (N := 8) hb (by decide)
  have lt : ∀ n, n < 100 → (nI kk < nI n ↔ kk < n) := fun n h => nI_ltI (by omega) (by omega)
  unfold wpX_carry
  dsimp only
  rw [hc, hv, hk, nI_1 v, ms_vb (by omega)]
  refine nm_e ⟨hin, hin, nm_e ⟨hin, nm_e ⟨hin, nm_e ?_⟩⟩⟩
  by_cases z0 : kk = 0
  · subst z0
    exact br_t (by decide) (br_t (by decide) (br_t (by decide) hp))
  by_cases z3 : kk ≤ 3
  · rw [if_neg (by omega), if_neg z0, if_pos z3, if_neg (by omega)] at hp
    refine br_t ((lt 7 (by decide)).mpr (by omega)) (br_t ((lt 4 (by decide)).mpr (by omega)) (br_f (nI_nle (by omega) (by omega)) ?_))
    rw [show nI kk - 1 = nI (kk - 1) from pk_sub (b := 1) (by omega), nI_clamp (show kk - 1 < 2 ^ 31 by omega)]
    have h3 := vp_in_nI (n := kk - 1) (N := 3) (by omega) (by decide)
    exact ⟨h3, h3, nm_e hp⟩
  by_cases z6 : kk ≤ 6
  · rw [if_pos (by omega), if_neg z0, if_neg z3, if_pos z6, if_pos (by omega)] at hp
    refine br_t ((lt 7 (by decide)).mpr (by omega)) (br_f (fun q => by have := (lt 4 (by decide)).mp q; omega) ?_)
    rw [show nI kk - 4 = nI (kk - 4) from pk_sub (b := 4) (by omega), nI_clamp (show kk - 4 < 2 ^ 31 by omega)]
    exact ⟨vp_in_nI (by omega) (by decide), ⟨8, cr_putX 7 _ (by omega) hp⟩⟩
  · rw [if_neg (by omega), if_neg z0, if_neg z3, if_neg z6, if_neg (by omega)] at hp
    obtain ⟨r, r3, hr⟩ := hn (by omega)
    refine br_f (fun q => by have := (lt 7 (by decide)).mp q; omega) ?_
    rw [show nI kk - 7 = nI (kk - 7) from pk_sub (b := 7) (by omega), nI_clamp (show kk - 7 < 2 ^ 31 by omega)]
    exact ⟨by rw [hr]; exact vp_in_nI r3 (by decide), vp_in_nI (by omega) (by decide), nm_e hp⟩
end
section
variable {f_came f_said f_done : Int32} {a_acts a_numbers a_ways a_first a_second a_over a_reg a_last a_often : Nat → Int32}
theorem cr_putY {post : SY → Prop} {kk : Nat} (h4 : 4 ≤ kk) (h6 : kk ≤ 6) : ∀ (k : Nat) (a_last : Nat → Int32), k ≤ 7 → post (f_came, f_said + 1, f_done, a_acts, a_numbers, a_ways, a_first, a_second, a_over, a_reg, upd (cr_sh k a_last) 0 (a_reg (kk - 4)), a_often) → wY_carryOut_80 post (nI kk) f_came f_said f_done (k + 1) (nI k) a_acts a_numbers a_ways a_first a_second a_over a_reg a_last a_often := by
  intro k
  induction k with
  | zero =>
    intro la _ hp
    refine br_t (by decide) ?_
    rw [show nI kk - 4 = nI (kk - 4) from pk_sub (b := 4) (by omega), nI_clamp (show kk - 4 < 2 ^ 31 by omega)]
    exact ⟨vp_in_nI (by omega) (by decide), nm_e (nm_e hp)⟩
  | succ k ih =>
    intro la hk hp
    refine br_f (nI_nle (by omega) (by omega)) ?_
    rw [nI_pred, nI_clamp (show k < 2 ^ 31 by omega), nI_clamp (show k + 1 < 2 ^ 31 by omega)]
    exact ⟨vp_in_nI (by omega) (by decide), vp_in_nI (by omega) (by decide), nm_e (nm_r (pk_m1 k) (ih _ (by omega) hp))⟩
theorem cr_Y {post : SY → Prop} {b kk v : Nat} (hb : b < 8) (hk : a_acts b = nI kk) (k9 : kk ≤ 9) (hn : 7 ≤ kk → ∃ r, r < 3 ∧ a_numbers b = nI r) (hv : a_often b = nI v)
    (hp : post (f_came, if 4 ≤ kk ∧ kk ≤ 6 then f_said + 1 else f_said, f_done + 1, a_acts, a_numbers, a_ways, a_first, a_second, a_over, if kk = 0 then a_reg else if kk ≤ 3 then upd a_reg (kk - 1) (a_reg (kk - 1) + a_numbers b) else if kk ≤ 6 then a_reg else upd a_reg (kk - 7) (a_reg (a_numbers b).toNatClampNeg), if 4 ≤ kk ∧ kk ≤ 6 then upd (cr_sh 7 a_last) 0 (a_reg (kk - 4)) else a_last, upd a_often b (nI (v + 1)))) : wpY_carryOut post (f_came, f_said, f_done, a_acts, a_numbers, a_ways, a_first, a_second, a_over, a_reg, a_last, a_often) (nI b) := by
  have hc : (nI b).toNatClampNeg = b := nI_clamp (by omega)
  have hin := vp_in_nI (N := 8) hb (by decide)
  have lt : ∀ n, n < 100 → (nI kk < nI n ↔ kk < n) := fun n h => nI_ltI (by omega) (by omega)
  have tl : ∀ n, n < 100 → (nI n < nI kk ↔ n < kk) := fun n h => nI_ltI (by omega) (by omega)
  unfold wpY_carryOut
  dsimp only
  rw [hc, hv, hk, nI_1 v]
  refine ⟨hin, nm_e ⟨hin, nm_e (nm_e ⟨hin, hin, nm_e ?_⟩)⟩⟩
  by_cases z0 : kk = 0
  · subst z0
    refine br_t (by decide) ?_
    unfold wY_carryOut_65 wY_carryOut_134
    exact br_t (by decide) (br_t (by decide) hp)
  by_cases z3 : kk ≤ 3
  · rw [if_neg (by omega), if_neg z0, if_pos z3, if_neg (by omega)] at hp
    refine br_f (fun q => by have := (lt 1 (by decide)).mp q; omega) (br_f (fun q => by have := (tl 3 (by decide)).mp q; omega) ?_)
    rw [show nI kk - 1 = nI (kk - 1) from pk_sub (b := 1) (by omega), nI_clamp (show kk - 1 < 2 ^ 31 by omega)]
    have h3 := vp_in_nI (n := kk - 1) (N := 3) (by omega) (by decide)
    exact ⟨h3, h3, nm_e hp⟩
  refine br_f (fun q => by have := (lt 1 (by decide)).mp q; omega) (br_t ((tl 3 (by decide)).mpr (by omega)) ?_)
  unfold wY_carryOut_65
  refine br_f (fun q => by have := (lt 4 (by decide)).mp q; omega) ?_
  by_cases z6 : kk ≤ 6
  · rw [if_pos (by omega), if_neg z0, if_neg z3, if_pos z6, if_pos (by omega)] at hp
    exact br_f (fun q => by have := (tl 6 (by decide)).mp q; omega) ⟨8, cr_putY (by omega) z6 7 _ (by omega) hp⟩
  · rw [if_neg (by omega), if_neg z0, if_neg z3, if_neg z6, if_neg (by omega)] at hp
    obtain ⟨r, r3, hr⟩ := hn (by omega)
    refine br_t ((tl 6 (by decide)).mpr (by omega)) ?_
    unfold wY_carryOut_134
    refine br_f (fun q => by have := (lt 7 (by decide)).mp q; omega) ?_
    rw [show nI kk - 7 = nI (kk - 7) from pk_sub (b := 7) (by omega), nI_clamp (show kk - 7 < 2 ^ 31 by omega)]
    exact ⟨by rw [hr]; exact vp_in_nI r3 (by decide), vp_in_nI (by omega) (by decide), nm_e hp⟩
end
end
section
/-! the run: the component's nested code against the reference's blocks -/
section
variable {f_came f_said f_done : Int32} {a_acts a_numbers a_ways a_first a_second a_over a_reg a_last a_often : Nat → Int32}
variable {wy A B : Nat → Nat}
theorem sy_131 {post : Int32 → SY → Prop} {f x k : Nat} (hx : x < 8) (hw : wy_R wy A B a_ways a_first a_second) (h : wY_run_71 post f (nI (A x)) (nI (k + 1)) f_came f_said f_done a_acts a_numbers a_ways a_first a_second a_over a_reg a_last a_often) : wY_run_131 post (wY_run_71 post f) (nI x) (nI k) f_came f_said f_done a_acts a_numbers a_ways a_first a_second a_over a_reg a_last a_often := by
  unfold wY_run_131
  refine ⟨vp_in_nI hx (by decide), nm_r (e' := nI (A x)) ?_ (nm_r (nI_1 k) h)⟩
  rw [nI_clamp (show x < 2 ^ 31 by omega)]
  exact (hw x hx).2.1
theorem sy_go {post : Int32 → SY → Prop} {f x k : Nat} {s1 d1 : Int32} {R1 La1 V1 : Nat → Int32} (hx : x < 8) (hk : k < 80) (hw : wy_R wy A B a_ways a_first a_second)
    (hcar : ∀ post : SY → Prop, post (2, s1, d1, a_acts, a_numbers, a_ways, a_first, a_second, a_over, R1, La1, V1) → wpY_carryOut post (2, f_said, f_done, a_acts, a_numbers, a_ways, a_first, a_second, a_over, a_reg, a_last, a_often) (nI x))
    (hst : wy x = 0 → wY_run_71 post f (nI (A x)) (nI (k + 1)) 1 s1 d1 a_acts a_numbers a_ways a_first a_second a_over R1 La1 V1)
    (hgo : ∀ t : Nat, (wy x = 1 ∧ t = A x) ∨ (2 ≤ wy x ∧ 0 < R1 (wy x - 2) ∧ t = A x) ∨ (2 ≤ wy x ∧ ¬ 0 < R1 (wy x - 2) ∧ t = B x) → wY_run_71 post f (nI t) (nI (k + 1)) 2 s1 d1 a_acts a_numbers a_ways a_first a_second a_over R1 La1 V1) :
    wY_run_71 post (f + 1) (nI x) (nI k) 2 f_said f_done a_acts a_numbers a_ways a_first a_second a_over a_reg a_last a_often := by
  obtain ⟨h1, h2, h3, h4, h5, h6⟩ := hw x hx
  have hc : (nI x).toNatClampNeg = x := nI_clamp (by omega)
  have hin := vp_in_nI (N := 8) hx (by decide)
  refine br_f (nI_ge (b := 80) hk (by decide)) (br_t rfl (hcar _ ?_))
  dsimp only
  refine ⟨hin, nm_r (e' := nI (wy x)) (by rw [hc]; exact h1) (pk_eq (wy x) 0 (fun z => ?_) (fun z => ?_))⟩
  · unfold wY_run_110
    rw [z]
    exact br_t (by decide) (sy_131 hx hw (hst z))
  · unfold wY_run_110
    refine pk_lt (wy x) 2 (fun y => sy_131 hx hw (hgo (A x) (Or.inl ⟨by omega, rfl⟩))) (fun y => ?_)
    rw [show nI (wy x) - 2 = nI (wy x - 2) from pk_sub (b := 2) (by omega), nI_clamp (show wy x - 2 < 2 ^ 31 by omega)]
    refine ⟨vp_in_nI (by omega) (by decide), br_c (fun q => ⟨hin, nm_r (e' := nI (B x)) (by rw [hc]; exact h3) (nm_r (nI_1 k) (hgo (B x) (Or.inr (Or.inr ⟨y, Int32.not_lt.mpr q, rfl⟩))))⟩) (fun q => sy_131 hx hw (hgo (A x) (Or.inr (Or.inl ⟨y, ?_, rfl⟩))))⟩
    exact Int32.not_le.mp q
theorem sy_end {post : Int32 → SY → Prop} {f : Nat} {x y st : Int32} (hs : ¬ st = 2) (hp : post st (st, f_said, f_done, a_acts, a_numbers, a_ways, a_first, a_second, a_over, a_reg, a_last, a_often)) : wY_run_71 post (f + 1) x y st f_said f_done a_acts a_numbers a_ways a_first a_second a_over a_reg a_last a_often :=
  br_c (fun _ => hp) (fun _ => br_f hs hp)
end
section
variable {f_known f_liveSet f_ordered f_loopSet f_mergeSet f_written f_codeSize f_workCount f_openCount f_state f_outCount f_carriedCount f_labelCount : Int32} {a_actKind a_actNumber a_wayKind a_wayA a_wayB a_dominating a_forward a_parent a_place a_code a_codeArg a_endOf a_elseOf a_workKind a_workBlock a_workRest a_openKind a_openTarget a_registers a_lately a_visitCount a_labels : Nat → Int32}
variable {a_ways : Nat → Int32} {wy wk A B : Nat → Nat} {sz : Nat} {G : Nat → Nat → Nat → Prop} {tg : Nat → Nat}
theorem sm_sim (hwX : ∀ x, x < 8 → wk x = if 2 ≤ wy x ∧ A x = B x then 1 else wy x) (hwY : wy_R wy A B a_ways a_wayA a_wayB)
    (hac : ∀ b, b < 8 → ∃ kk, kk ≤ 9 ∧ a_actKind b = nI kk ∧ (7 ≤ kk → ∃ r, r < 3 ∧ a_actNumber b = nI r))
    (Cl : ∀ q k x, G q k x → wr_Cl wk A a_code a_codeArg tg sz G q k x) (hl : ∀ q, q ≤ sz → (wr_S a_code q).length ≤ 23) (s78 : sz ≤ 78)
    (j3 : ∀ o, o < sz → a_code o = 0 → G (o + 1) 1 (tg o)) (j4 : ∀ o, o < sz → a_code o = 1 → ∃ q, q < sz ∧ a_endOf o = nI q ∧ wr_S a_code (q + 1) = wr_S a_code o ∧ G (q + 1) 0 (tg o))
    (j5 : ∀ o, o < sz → a_code o = 2 → ∃ q, q < sz ∧ a_elseOf o = nI q ∧ wr_S a_code (q + 1) = o :: wr_S a_code o ∧ G (q + 1) 2 (B (tg o))) :
    ∀ m k x q rd lc (f_outCount : Int32) (a_registers a_lately a_visitCount a_labels : Nat → Int32) (v : Nat → Nat), k + m = 80 → x < 8 → q < sz → a_code q = 5 → a_codeArg q = nI x → G (q + 1) 5 x → wr_RL a_labels (wr_S a_code q) lc → rd + 100 * (m + 1) ≤ 10368 → (∀ j, j < 8 → a_visitCount j = nI (v j) ∧ v j ≤ k) →
    ∃ (st so : Int32) (ln kn : Nat) (Rn Ln Vn bn : Nat → Int32), (∀ j, j < 8 → ∃ w, Vn j = nI w ∧ w ≤ 80) ∧
      (∀ (post : Int32 → SX → Prop) (f : Nat), 10368 < f + rd → post st (f_known, f_liveSet, f_ordered, f_loopSet, f_mergeSet, f_written, f_codeSize, f_workCount, f_openCount, st, so, nI kn, nI ln, a_actKind, a_actNumber, a_wayKind, a_wayA, a_wayB, a_dominating, a_forward, a_parent, a_place, a_code, a_codeArg, a_endOf, a_elseOf, a_workKind, a_workBlock, a_workRest, a_openKind, a_openTarget, Rn, Ln, Vn, bn) → wX_run_80 post f (nI q) (nI rd) f_known f_liveSet f_ordered f_loopSet f_mergeSet f_written f_codeSize f_workCount f_openCount 0 f_outCount (nI k) (nI lc) a_actKind a_actNumber a_wayKind a_wayA a_wayB a_dominating a_forward a_parent a_place a_code a_codeArg a_endOf a_elseOf a_workKind a_workBlock a_workRest a_openKind a_openTarget a_registers a_lately a_visitCount a_labels) ∧
      (∀ (post : Int32 → SY → Prop) (a_over : Nat → Int32) (f : Nat), m + 2 ≤ f → post st (st, so, nI kn, a_actKind, a_actNumber, a_ways, a_wayA, a_wayB, a_over, Rn, Ln, Vn) → wY_run_71 post f (nI x) (nI k) 2 f_outCount (nI k) a_actKind a_actNumber a_ways a_wayA a_wayB a_over a_registers a_lately a_visitCount) := by
  intro m
  induction m with
  | zero =>
    intro k x q rd lc so R La V lb v hk hx hq c5 gx hG hR hr hV
    have : k = 80 := by omega
    subst this
    refine ⟨2, so, lc, 80, R, La, V, lb, fun j hj => ⟨v j, hV j hj⟩, fun post f hf hp => ?_, fun post ov f hf hp => ?_⟩
    · obtain ⟨f, rfl⟩ : ∃ f', f = f' + 1 + 1 := ⟨f - 2, by omega⟩
      exact xr_go (by omega) (xs_tired (by omega) c5 (nm_e (xr_end (by decide) hp)))
    · obtain ⟨f, rfl⟩ : ∃ f', f = f' + 1 := ⟨f - 1, by omega⟩
      exact br_t (by decide) hp
  | succ m ih =>
    intro k x q rd lc so R La V lb v hk hx hq c5 gx hG hR hr hV
    obtain ⟨kk, k9, hkk, hnn⟩ := hac x hx
    obtain ⟨hv1, hv2⟩ := hV x hx
    have ll := wr_RL_len _ _ hR
    have lq := hl q (by omega)
    have carX := fun (f_state f_labelCount : Int32) (a_labels : Nat → Int32) (post : SX → Prop) => cr_X (post := post) (f_known := f_known) (f_liveSet := f_liveSet) (f_ordered := f_ordered) (f_loopSet := f_loopSet) (f_mergeSet := f_mergeSet) (f_written := f_written) (f_codeSize := f_codeSize) (f_workCount := f_workCount) (f_openCount := f_openCount) (f_state := f_state) (f_outCount := so) (f_carriedCount := nI k) (f_labelCount := f_labelCount) (a_actKind := a_actKind) (a_actNumber := a_actNumber) (a_wayKind := a_wayKind) (a_wayA := a_wayA) (a_wayB := a_wayB) (a_dominating := a_dominating) (a_forward := a_forward) (a_parent := a_parent) (a_place := a_place) (a_code := a_code) (a_codeArg := a_codeArg) (a_endOf := a_endOf) (a_elseOf := a_elseOf) (a_workKind := a_workKind) (a_workBlock := a_workBlock) (a_workRest := a_workRest) (a_openKind := a_openKind) (a_openTarget := a_openTarget) (a_registers := R) (a_lately := La) (a_visitCount := V) (a_labels := a_labels) hx hkk k9 hnn hv1 (by omega)
    have carY := fun (a_over : Nat → Int32) (post : SY → Prop) => cr_Y (post := post) (f_came := 2) (f_said := so) (f_done := nI k) (a_acts := a_actKind) (a_numbers := a_actNumber) (a_ways := a_ways) (a_first := a_wayA) (a_second := a_wayB) (a_over := a_over) (a_reg := R) (a_last := La) (a_often := V) hx hkk k9 hnn hv1
    generalize (if 4 ≤ kk ∧ kk ≤ 6 then so + 1 else so) = s1 at carX carY
    generalize (if kk = 0 then R else if kk ≤ 3 then upd R (kk - 1) (R (kk - 1) + a_actNumber x) else if kk ≤ 6 then R else upd R (kk - 7) (R (a_actNumber x).toNatClampNeg)) = R1 at carX carY
    generalize (if 4 ≤ kk ∧ kk ≤ 6 then upd (cr_sh 7 La) 0 (R (kk - 4)) else La) = L1 at carX carY
    rw [nI_1 k] at carX carY
    have hV1 : ∀ j, j < 8 → upd V x (nI (v x + 1)) j = nI ((fun j => if j = x then v x + 1 else v j) j) ∧ (fun j => if j = x then v x + 1 else v j) j ≤ k + 1 := fun j hj => by
      by_cases z : j = x
      · subst z
        exact ⟨by rw [pk_us]; exact congrArg nI (if_pos rfl).symm, by show (if j = j then v j + 1 else v j) ≤ k + 1; rw [if_pos rfl]; omega⟩
      · have := hV j hj
        exact ⟨by rw [pk_un z, this.1]; exact congrArg nI (if_neg z).symm, by show (if j = x then v x + 1 else v j) ≤ k + 1; rw [if_neg z]; omega⟩
    have sn : wr_S a_code (q + 1) = wr_S a_code q := wr_S_n (by rw [c5]; decide) (by rw [c5]; decide)
    have hX := hwX x hx
    obtain ⟨y1, y2, y3, y4, y5, y6⟩ := hwY x hx
    -- the next block, by a path from q2 in n2 steps
    have next : ∀ (t q2 n2 lc2 : Nat) (lb2 : Nat → Int32), t < 8 → n2 ≤ 2 → q2 ≤ sz → G q2 2 t → wr_RL lb2 (wr_S a_code q2) lc2 →
        (∀ (post : Int32 → SX → Prop) (f : Nat), wX_run_80 post f (nI q2) (nI (rd + n2)) f_known f_liveSet f_ordered f_loopSet f_mergeSet f_written f_codeSize f_workCount f_openCount 0 s1 (nI (k + 1)) (nI lc2) a_actKind a_actNumber a_wayKind a_wayA a_wayB a_dominating a_forward a_parent a_place a_code a_codeArg a_endOf a_elseOf a_workKind a_workBlock a_workRest a_openKind a_openTarget R1 L1 (upd V x (nI (v x + 1))) lb2 → wX_run_80 post (f + n2) (nI q) (nI rd) f_known f_liveSet f_ordered f_loopSet f_mergeSet f_written f_codeSize f_workCount f_openCount 0 so (nI k) (nI lc) a_actKind a_actNumber a_wayKind a_wayA a_wayB a_dominating a_forward a_parent a_place a_code a_codeArg a_endOf a_elseOf a_workKind a_workBlock a_workRest a_openKind a_openTarget R La V lb) →
        (∀ t', (wy x = 1 ∧ t' = A x) ∨ (2 ≤ wy x ∧ 0 < R1 (wy x - 2) ∧ t' = A x) ∨ (2 ≤ wy x ∧ ¬ 0 < R1 (wy x - 2) ∧ t' = B x) → t' = t) → wy x ≠ 0 →
        ∃ (st so' : Int32) (ln kn : Nat) (Rn Ln Vn bn : Nat → Int32), (∀ j, j < 8 → ∃ w, Vn j = nI w ∧ w ≤ 80) ∧
          (∀ (post : Int32 → SX → Prop) (f : Nat), 10368 < f + rd → post st (f_known, f_liveSet, f_ordered, f_loopSet, f_mergeSet, f_written, f_codeSize, f_workCount, f_openCount, st, so', nI kn, nI ln, a_actKind, a_actNumber, a_wayKind, a_wayA, a_wayB, a_dominating, a_forward, a_parent, a_place, a_code, a_codeArg, a_endOf, a_elseOf, a_workKind, a_workBlock, a_workRest, a_openKind, a_openTarget, Rn, Ln, Vn, bn) → wX_run_80 post f (nI q) (nI rd) f_known f_liveSet f_ordered f_loopSet f_mergeSet f_written f_codeSize f_workCount f_openCount 0 so (nI k) (nI lc) a_actKind a_actNumber a_wayKind a_wayA a_wayB a_dominating a_forward a_parent a_place a_code a_codeArg a_endOf a_elseOf a_workKind a_workBlock a_workRest a_openKind a_openTarget R La V lb) ∧
          (∀ (post : Int32 → SY → Prop) (a_over : Nat → Int32) (f : Nat), m + 1 + 2 ≤ f → post st (st, so', nI kn, a_actKind, a_actNumber, a_ways, a_wayA, a_wayB, a_over, Rn, Ln, Vn) → wY_run_71 post f (nI x) (nI k) 2 so (nI k) a_actKind a_actNumber a_ways a_wayA a_wayB a_over R La V) := by
      intro t q2 n2 lc2 lb2 t8 hn2 hq2 hG2 hR2 hW2 hY2 hw0
      obtain ⟨q', lc', n', lb', p1, p2, p3, p4, p5, p6, p7⟩ := xr_b (xr_steps (f_known := f_known) (f_liveSet := f_liveSet) (f_ordered := f_ordered) (f_loopSet := f_loopSet) (f_mergeSet := f_mergeSet) (f_written := f_written) (f_codeSize := f_codeSize) (f_workCount := f_workCount) (f_openCount := f_openCount) (f_outCount := s1) (f_carriedCount := nI (k + 1)) (a_actKind := a_actKind) (a_actNumber := a_actNumber) (a_wayKind := a_wayKind) (a_wayA := a_wayA) (a_wayB := a_wayB) (a_dominating := a_dominating) (a_forward := a_forward) (a_parent := a_parent) (a_place := a_place) (a_code := a_code) (a_codeArg := a_codeArg) (a_endOf := a_endOf) (a_elseOf := a_elseOf) (a_workKind := a_workKind) (a_workBlock := a_workBlock) (a_workRest := a_workRest) (a_openKind := a_openKind) (a_openTarget := a_openTarget) (a_registers := R1) (a_lately := L1) (a_visitCount := upd V x (nI (v x + 1)))) Cl hl s78 j3 j4 (rd := rd + n2) hq2 hG2 hR2 (by omega)
      obtain ⟨st, so', ln, kn, Rn, Ln, Vn, bn, a1, a2, a3⟩ := ih (k + 1) t q' (rd + n2 + n') lc' s1 R1 L1 (upd V x (nI (v x + 1))) lb' _ (by omega) t8 p2 p3 p4 p5 p6 (by omega) hV1
      refine ⟨st, so', ln, kn, Rn, Ln, Vn, bn, a1, fun post f hf hp => ?_, fun post ov f hf hp => ?_⟩
      · have e1 : f = (f - n2 - n') + n' + n2 := by omega
        rw [e1]
        exact hW2 post _ (p7 post _ (a2 post _ (by omega) hp))
      · obtain ⟨f, rfl⟩ : ∃ f', f = f' + 1 := ⟨f - 1, by omega⟩
        refine sy_go hx (by omega) hwY (fun post hp => carY ov post hp) (fun z => absurd z hw0) (fun t' ht' => ?_)
        rw [hY2 t' ht']
        exact a3 post ov f (by omega) hp
    obtain ⟨_, cl⟩ := (Cl (q + 1) 5 x hG).2.2.2 rfl
    rcases cl with ⟨w0, q1, c7⟩ | ⟨w1, hG2⟩ | ⟨w2, q1, c2, g2, t2, hG2⟩
    · have wy0 : wy x = 0 := by
        by_cases z : 2 ≤ wy x ∧ A x = B x
        · rw [if_pos z] at hX; omega
        · rw [if_neg z] at hX; omega
      refine ⟨1, s1, lc, k + 1, R1, L1, upd V x (nI (v x + 1)), lb, fun j hj => ⟨_, (hV1 j hj).1, by have := (hV1 j hj).2; omega⟩, fun post f hf hp => ?_, fun post ov f hf hp => ?_⟩
      · obtain ⟨f, rfl⟩ : ∃ f', f = f' + 1 + 1 + 1 := ⟨f - 3, by omega⟩
        exact xr_go (by omega) (xs_act (by omega) (by omega) c5 gx (carX 0 (nI lc) lb _ (nm_r (nI_1 rd) (xr_go (by omega) (xs_halt (by omega) c7 (nm_e (xr_end (by decide) hp)))))))
      · obtain ⟨f, rfl⟩ : ∃ f', f = f' + 1 + 1 := ⟨f - 2, by omega⟩
        exact sy_go hx (by omega) hwY (fun post hp => carY ov post hp) (fun z => sy_end (by decide) hp) (fun t' ht' => by omega)
    · have hY2 : (wy x = 1 ∨ (2 ≤ wy x ∧ A x = B x)) := by
        by_cases z : 2 ≤ wy x ∧ A x = B x
        · exact Or.inr z
        · rw [if_neg z] at hX; exact Or.inl (by omega)
      refine next (A x) (q + 1) 1 lc lb y5 (by omega) (by omega) hG2 (by rw [sn]; exact hR) (fun post f hw => ?_) (fun t' ht' => by omega) (by omega)
      exact xr_go (by omega) (xs_act (by omega) (by omega) c5 gx (carX 0 (nI lc) lb _ (nm_r (nI_1 rd) hw)))
    · have hne : ¬ (2 ≤ wy x ∧ A x = B x) := fun z => by rw [if_pos z] at hX; omega
      rw [if_neg hne] at hX
      obtain ⟨y, yb, ye, ys, yG⟩ := j5 (q + 1) q1 c2
      rw [t2] at yG
      have st2 : ∀ (q3 : Nat), (0 < R1 (wy x - 2) ∧ q3 = q + 1 + 1) ∨ (¬ 0 < R1 (wy x - 2) ∧ q3 = y + 1) → ∀ (post : Int32 → SX → Prop) (f : Nat), wX_run_80 post f (nI q3) (nI (rd + 2)) f_known f_liveSet f_ordered f_loopSet f_mergeSet f_written f_codeSize f_workCount f_openCount 0 s1 (nI (k + 1)) (nI (lc + 1)) a_actKind a_actNumber a_wayKind a_wayA a_wayB a_dominating a_forward a_parent a_place a_code a_codeArg a_endOf a_elseOf a_workKind a_workBlock a_workRest a_openKind a_openTarget R1 L1 (upd V x (nI (v x + 1))) (upd lb lc (nI (q + 1))) → wX_run_80 post (f + 2) (nI q) (nI rd) f_known f_liveSet f_ordered f_loopSet f_mergeSet f_written f_codeSize f_workCount f_openCount 0 so (nI k) (nI lc) a_actKind a_actNumber a_wayKind a_wayA a_wayB a_dominating a_forward a_parent a_place a_code a_codeArg a_endOf a_elseOf a_workKind a_workBlock a_workRest a_openKind a_openTarget R La V lb := by
        intro q3 h3 post f hw
        refine xr_go (f := f + 1) (by omega) (xs_act (by omega) (by omega) c5 gx (carX 0 (nI lc) lb _ (nm_r (nI_1 rd) (xr_go (by omega) (xs_if (by omega) (by omega) c2 (by rw [g2, hX]) (by omega) ye (fun z => ?_) (fun z => ?_))))))
        · rcases h3 with h3 | h3
          · rw [h3.2] at hw
            exact nm_r (nI_1 (rd + 1)) hw
          · exact absurd z h3.1
        · rcases h3 with h3 | h3
          · exact absurd h3.1 z
          · rw [h3.2] at hw
            exact nm_r (nI_1 (rd + 1)) hw
      have hR3 : wr_RL (upd lb lc (nI (q + 1))) ((q + 1) :: wr_S a_code (q + 1)) (lc + 1) := wr_RL_push (by rw [sn]; exact hR)
      by_cases z : 0 < R1 (wy x - 2)
      · refine next (A x) (q + 1 + 1) 2 (lc + 1) (upd lb lc (nI (q + 1))) y5 (by omega) (by omega) hG2 (by rw [wr_S_o (by rw [c2]; decide)]; exact hR3) (st2 _ (Or.inl ⟨z, rfl⟩)) (fun t' ht' => ?_) (by omega)
        rcases ht' with h | h | h
        · exact h.2
        · exact h.2.2
        · exact absurd z h.2.1
      · refine next (B x) (y + 1) 2 (lc + 1) (upd lb lc (nI (q + 1))) y6 (by omega) (by omega) yG (by rw [ys]; exact hR3) (st2 _ (Or.inr ⟨z, rfl⟩)) (fun t' ht' => ?_) (by omega)
        rcases ht' with h | h | h
        · omega
        · exact absurd h.2.1 z
        · exact h.2.2
end
end
section
/-! the relation's facts; learning, regularity and the run under them -/
/-- the component's kinds of ways -/
def rl_n (wy A B : Nat → Nat) (x : Nat) : Nat := if 2 ≤ wy x ∧ A x = B x then 1 else wy x
theorem rl_e (wy A B : Nat → Nat) : gr_e (rl_n wy A B) A B = gr_e wy A B := by
  funext b c
  unfold gr_e rl_n
  by_cases z : 2 ≤ wy b ∧ A b = B b
  · rw [if_pos z, if_neg (by decide), if_pos rfl, if_neg (by omega), if_neg (by omega), z.2]
    cases (c == B b) <;> rfl
  · rw [if_neg z]
def rl_F (wy A B : Nat → Nat) (f_known f_liveSet f_ordered f_loopSet f_mergeSet f_written : Int32) (a_actKind a_actNumber a_wayKind a_wayA a_wayB a_dominating a_forward a_parent a_place a_code a_codeArg a_endOf a_elseOf a_ways : Nat → Int32) : Prop :=
  wy_R wy A B a_ways a_wayA a_wayB ∧ wy_R (rl_n wy A B) A B a_wayKind a_wayA a_wayB ∧
  (∀ b, b < 8 → ∃ kk, kk ≤ 9 ∧ a_actKind b = nI kk ∧ (7 ≤ kk → ∃ r, r < 3 ∧ a_actNumber b = nI r)) ∧
  (¬ f_known = 0 → ln_K (gr_e wy A B) f_liveSet f_ordered f_loopSet f_mergeSet a_dominating a_forward a_parent a_place) ∧
  (¬ f_known = 0 → ¬ f_written = 0 → ∃ sz, wr_OK (rl_n wy A B) A B a_code a_codeArg a_endOf a_elseOf sz)
/-- what a regular graph gives the writing -/
theorem rl_reg {wy A B : Nat → Nat} {f_liveSet f_ordered f_loopSet f_mergeSet : Int32} {a_ways a_wayA a_wayB a_dominating a_forward a_parent a_place : Nat → Int32} (hw : wy_R wy A B a_ways a_wayA a_wayB) (hK : ln_K (gr_e wy A B) f_liveSet f_ordered f_loopSet f_mergeSet a_dominating a_forward a_parent a_place) (hZ : gr_Z (gr_F (gr_e wy A B)) 8 = false) :
    ∃ pr p : Nat → Nat, wr_Gr (gr_e wy A B) pr p A B (rl_n wy A B) ∧ (∀ c b, c < 8 → b < 8 → (a_parent c = nI b ↔ pr c = b)) ∧ (∀ m, m < 8 → gr_L (gr_e wy A B) m = true → a_place m = nI (p m) ∧ p m < 8) := by
  obtain ⟨k1, k2, k3, k4, k5, k6, T, p, o, hO, hJ, ho, hp⟩ := hK
  have oc := (gr_O_reg hO hJ).mpr hZ
  obtain ⟨h1, h2, h3⟩ := hO
  have all := gr_c_all 8 (fun i hi ht => (h2 i hi ht).1) (h1.symm.trans oc)
  have o8 := gr_c_le T 8
  refine ⟨fun c => if a_parent c = -1 then 8 else (a_parent c).toNatClampNeg, p, ⟨fun c hc => ?_, fun a c ha hc hF => ?_, fun b hb => ?_⟩, fun c b hc hb => ?_, fun m hm hl => ?_⟩
  · rcases k6 c hc with ⟨q1, q2⟩ | ⟨q, q1, q2, q3, q4, q5⟩
    · exact Or.inl ⟨if_pos q1, q2⟩
    · right
      have ne : ¬ a_parent c = -1 := fun z => by
        rw [q2] at z
        have := congrArg Int32.toInt z
        rw [nI_toInt (by omega), show (-1 : Int32).toInt = -1 from by decide] at this
        omega
      show gr_P (gr_e wy A B) c (if a_parent c = -1 then 8 else (a_parent c).toNatClampNeg)
      rw [if_neg ne, q2, nI_clamp (by omega)]
      exact ⟨q1, q3, q4, q5⟩
  · exact (h3 a c ha hc (all c hc (gr_F_L ha hc hF)) hF).2
  · obtain ⟨y1, y2, y3, y4, y5, y6⟩ := hw b hb
    unfold rl_n gr_e
    by_cases z : 2 ≤ wy b ∧ A b = B b
    · rw [if_pos z]
      refine ⟨by omega, y5, y6, fun q => by omega, fun _ => ?_, fun q => by omega⟩
      rw [if_neg (by omega), if_neg (by omega)]; simp
    · rw [if_neg z]
      refine ⟨y4, y5, y6, fun q e => z ⟨q, e⟩, fun q => ?_, fun q => ?_⟩
      · rw [if_neg (by omega)]
        split <;> simp
      · rw [if_neg (by omega), if_neg (by omega)]; simp
  · show a_parent c = nI b ↔ (if a_parent c = -1 then 8 else (a_parent c).toNatClampNeg) = b
    have nm : ∀ q, q < 8 → ¬ nI q = -1 := fun q hq z => by
      have := congrArg Int32.toInt z
      rw [nI_toInt (by omega), show (-1 : Int32).toInt = -1 from by decide] at this
      omega
    rcases k6 c hc with ⟨q1, q2⟩ | ⟨q, q1, q2, q3, q4, q5⟩
    · rw [if_pos q1, q1]
      exact ⟨fun z => absurd z.symm (nm b hb), fun z => by omega⟩
    · rw [q2, if_neg (nm q q1), nI_clamp (by omega)]
      exact nI_eq (by omega) (by omega)
  · have ht := all m hm hl
    exact ⟨hp m hm ht, by have := (h2 m hm ht).2; omega⟩
section
variable {f_known f_liveSet f_ordered f_loopSet f_mergeSet f_written f_codeSize f_workCount f_openCount f_state f_outCount f_carriedCount f_labelCount : Int32} {a_actKind a_actNumber a_wayKind a_wayA a_wayB a_dominating a_forward a_parent a_place a_code a_codeArg a_endOf a_elseOf a_workKind a_workBlock a_workRest a_openKind a_openTarget a_registers a_lately a_visitCount a_labels : Nat → Int32}
variable {a_ways a_over : Nat → Int32} {wy A B : Nat → Nat}
theorem rl_learn {post : SX → Prop} (hF : rl_F wy A B f_known f_liveSet f_ordered f_loopSet f_mergeSet f_written a_actKind a_actNumber a_wayKind a_wayA a_wayB a_dominating a_forward a_parent a_place a_code a_codeArg a_endOf a_elseOf a_ways) (hp : ∀ (f_known f_liveSet f_ordered f_loopSet f_mergeSet f_written : Int32) (a_dominating a_forward a_parent a_place : Nat → Int32), rl_F wy A B f_known f_liveSet f_ordered f_loopSet f_mergeSet f_written a_actKind a_actNumber a_wayKind a_wayA a_wayB a_dominating a_forward a_parent a_place a_code a_codeArg a_endOf a_elseOf a_ways → ¬ f_known = 0 → post (f_known, f_liveSet, f_ordered, f_loopSet, f_mergeSet, f_written, f_codeSize, f_workCount, f_openCount, f_state, f_outCount, f_carriedCount, f_labelCount, a_actKind, a_actNumber, a_wayKind, a_wayA, a_wayB, a_dominating, a_forward, a_parent, a_place, a_code, a_codeArg, a_endOf, a_elseOf, a_workKind, a_workBlock, a_workRest, a_openKind, a_openTarget, a_registers, a_lately, a_visitCount, a_labels)) : wpX_learn post (f_known, f_liveSet, f_ordered, f_loopSet, f_mergeSet, f_written, f_codeSize, f_workCount, f_openCount, f_state, f_outCount, f_carriedCount, f_labelCount, a_actKind, a_actNumber, a_wayKind, a_wayA, a_wayB, a_dominating, a_forward, a_parent, a_place, a_code, a_codeArg, a_endOf, a_elseOf, a_workKind, a_workBlock, a_workRest, a_openKind, a_openTarget, a_registers, a_lately, a_visitCount, a_labels) := by
  obtain ⟨h1, h2, h3, h4, h5⟩ := hF
  refine xl_learn h2 (fun z => hp _ _ _ _ _ _ _ _ _ _ ⟨h1, h2, h3, h4, h5⟩ z) (fun ls od lo me dom fo pa pl hK => hp _ _ _ _ _ _ _ _ _ _ ⟨h1, h2, h3, fun _ => ?_, fun _ z => absurd rfl z⟩ (by decide))
  rw [rl_e] at hK; exact hK
theorem rl_isReg {post : Int32 → SX → Prop} (hF : rl_F wy A B f_known f_liveSet f_ordered f_loopSet f_mergeSet f_written a_actKind a_actNumber a_wayKind a_wayA a_wayB a_dominating a_forward a_parent a_place a_code a_codeArg a_endOf a_elseOf a_ways) (hp : ∀ (f_known f_liveSet f_ordered f_loopSet f_mergeSet f_written : Int32) (a_dominating a_forward a_parent a_place : Nat → Int32), rl_F wy A B f_known f_liveSet f_ordered f_loopSet f_mergeSet f_written a_actKind a_actNumber a_wayKind a_wayA a_wayB a_dominating a_forward a_parent a_place a_code a_codeArg a_endOf a_elseOf a_ways → ¬ f_known = 0 → post (yw_i (!(gr_Z (gr_F (gr_e wy A B)) 8))) (f_known, f_liveSet, f_ordered, f_loopSet, f_mergeSet, f_written, f_codeSize, f_workCount, f_openCount, f_state, f_outCount, f_carriedCount, f_labelCount, a_actKind, a_actNumber, a_wayKind, a_wayA, a_wayB, a_dominating, a_forward, a_parent, a_place, a_code, a_codeArg, a_endOf, a_elseOf, a_workKind, a_workBlock, a_workRest, a_openKind, a_openTarget, a_registers, a_lately, a_visitCount, a_labels)) : wpX_isRegular post (f_known, f_liveSet, f_ordered, f_loopSet, f_mergeSet, f_written, f_codeSize, f_workCount, f_openCount, f_state, f_outCount, f_carriedCount, f_labelCount, a_actKind, a_actNumber, a_wayKind, a_wayA, a_wayB, a_dominating, a_forward, a_parent, a_place, a_code, a_codeArg, a_endOf, a_elseOf, a_workKind, a_workBlock, a_workRest, a_openKind, a_openTarget, a_registers, a_lately, a_visitCount, a_labels) := by
  unfold wpX_isRegular
  dsimp only
  refine rl_learn hF fun kn ls od lo me wr dom fo pa pl hF' hk => ?_
  have hp' := hp kn ls od lo me wr dom fo pa pl hF' hk
  obtain ⟨k1, k2, k3, k4, k5, k6, T, p, o, hO, hJ, ho, hpl⟩ := hF'.2.2.2.1 hk
  have R := gr_O_reg hO hJ
  have o8 : o ≤ 8 := by rw [hO.1]; exact gr_c_le T 8
  have l8 := gr_c_le (gr_L (gr_e wy A B)) 8
  subst k1 ho
  refine xw_size (pk_eq o (gr_c (gr_L (gr_e wy A B)) 8) (fun z => ?_) (fun z => ?_))
  · rw [R.mp z] at hp'; exact hp'
  · rw [show gr_Z (gr_F (gr_e wy A B)) 8 = true from xw_tn fun q => z (R.mpr q)] at hp'; exact hp'
end
/-- the counts of visits, cleared -/
def cr_clr : Nat → Nat → (Nat → Int32) → (Nat → Int32)
  | 0, _, V => V
  | d + 1, i, V => cr_clr d (i + 1) (upd V i 0)
theorem cr_clr_0 : ∀ (d i : Nat) (V : Nat → Int32) (j : Nat), (i ≤ j ∧ j < i + d) ∨ V j = 0 → cr_clr d i V j = 0 := by
  intro d
  induction d with
  | zero =>
    intro i V j h
    rcases h with h | h
    · omega
    · exact h
  | succ d ih =>
    intro i V j h
    refine ih (i + 1) (upd V i 0) j ?_
    by_cases z : j = i
    · subst z; exact Or.inr pk_us
    · rcases h with h | h
      · exact Or.inl (by omega)
      · exact Or.inr (by rw [pk_un z]; exact h)
section
variable {f_known f_liveSet f_ordered f_loopSet f_mergeSet f_written f_codeSize f_workCount f_openCount f_state f_outCount f_carriedCount f_labelCount : Int32} {a_actKind a_actNumber a_wayKind a_wayA a_wayB a_dominating a_forward a_parent a_place a_code a_codeArg a_endOf a_elseOf a_workKind a_workBlock a_workRest a_openKind a_openTarget a_registers a_lately a_visitCount a_labels : Nat → Int32}
theorem rl_51 {post : Int32 → SX → Prop} : ∀ (d i : Nat) (a_visitCount : Nat → Int32), i + d = 8 → (∃ n80 : Nat, wX_run_80 post n80 0 0 f_known f_liveSet f_ordered f_loopSet f_mergeSet f_written f_codeSize f_workCount f_openCount 0 f_outCount f_carriedCount f_labelCount a_actKind a_actNumber a_wayKind a_wayA a_wayB a_dominating a_forward a_parent a_place a_code a_codeArg a_endOf a_elseOf a_workKind a_workBlock a_workRest a_openKind a_openTarget a_registers a_lately (cr_clr d i a_visitCount) a_labels) → wX_run_51 post f_known f_liveSet f_ordered f_loopSet f_mergeSet f_written f_codeSize f_workCount f_openCount f_state f_outCount f_carriedCount f_labelCount (d + 1) (nI i) a_actKind a_actNumber a_wayKind a_wayA a_wayB a_dominating a_forward a_parent a_place a_code a_codeArg a_endOf a_elseOf a_workKind a_workBlock a_workRest a_openKind a_openTarget a_registers a_lately a_visitCount a_labels := by
  intro d
  induction d with
  | zero =>
    intro i V hi hp
    exact br_t (xw_8e hi) hp
  | succ d ih =>
    intro i V hi hp
    refine br_f (xw_8 hi) ?_
    rw [nI_clamp (show i < 2 ^ 31 by omega), show vp_nar .byte 0 = 0 from ms_vb' (n := 0) (by decide)]
    exact ⟨vp_in_nI (by omega) (by decide), nm_e (nm_r (nI_1 i) (ih (i + 1) _ (by omega) hp))⟩
end
section
variable {f_came f_said f_done : Int32} {a_acts a_numbers a_ways a_first a_second a_over a_reg a_last a_often : Nat → Int32}
theorem rl_47 {post : Int32 → SY → Prop} : ∀ (d i : Nat) (a_often : Nat → Int32), i + d = 8 → (∃ n71 : Nat, wY_run_71 post n71 0 0 f_came f_said f_done a_acts a_numbers a_ways a_first a_second a_over a_reg a_last (cr_clr d i a_often)) → wY_run_47 post f_came f_said f_done (d + 1) (nI i) a_acts a_numbers a_ways a_first a_second a_over a_reg a_last a_often := by
  intro d
  induction d with
  | zero =>
    intro i V hi hp
    exact br_t (xw_8e hi) hp
  | succ d ih =>
    intro i V hi hp
    refine br_f (xw_8 hi) ?_
    rw [nI_clamp (show i < 2 ^ 31 by omega)]
    exact ⟨vp_in_nI (by omega) (by decide), nm_e (nm_r (nI_1 i) (ih (i + 1) _ (by omega) hp))⟩
end
section
variable {f_known f_liveSet f_ordered f_loopSet f_mergeSet f_written f_codeSize f_workCount f_openCount f_state f_outCount f_carriedCount f_labelCount : Int32} {a_actKind a_actNumber a_wayKind a_wayA a_wayB a_dominating a_forward a_parent a_place a_code a_codeArg a_endOf a_elseOf a_workKind a_workBlock a_workRest a_openKind a_openTarget a_registers a_lately a_visitCount a_labels : Nat → Int32}
variable {a_ways : Nat → Int32} {wy A B : Nat → Nat}
/-- the two loops of a run, with one outcome -/
theorem rl_loop {sz : Nat} (hwY : wy_R wy A B a_ways a_wayA a_wayB) (hac : ∀ b, b < 8 → ∃ kk, kk ≤ 9 ∧ a_actKind b = nI kk ∧ (7 ≤ kk → ∃ r, r < 3 ∧ a_actNumber b = nI r)) (hOK : wr_OK (rl_n wy A B) A B a_code a_codeArg a_endOf a_elseOf sz) (hV : ∀ j, j < 8 → a_visitCount j = 0) :
    ∃ (st so : Int32) (ln kn : Nat) (Rn Ln Vn bn : Nat → Int32),
      (∀ post : Int32 → SX → Prop, post st (f_known, f_liveSet, f_ordered, f_loopSet, f_mergeSet, f_written, f_codeSize, f_workCount, f_openCount, st, so, nI kn, nI ln, a_actKind, a_actNumber, a_wayKind, a_wayA, a_wayB, a_dominating, a_forward, a_parent, a_place, a_code, a_codeArg, a_endOf, a_elseOf, a_workKind, a_workBlock, a_workRest, a_openKind, a_openTarget, Rn, Ln, Vn, bn) → ∃ n80 : Nat, wX_run_80 post n80 0 0 f_known f_liveSet f_ordered f_loopSet f_mergeSet f_written f_codeSize f_workCount f_openCount 0 0 0 0 a_actKind a_actNumber a_wayKind a_wayA a_wayB a_dominating a_forward a_parent a_place a_code a_codeArg a_endOf a_elseOf a_workKind a_workBlock a_workRest a_openKind a_openTarget a_registers a_lately a_visitCount a_labels) ∧
      (∀ (post : Int32 → SY → Prop) (a_over : Nat → Int32), post st (st, so, nI kn, a_actKind, a_actNumber, a_ways, a_wayA, a_wayB, a_over, Rn, Ln, Vn) → ∃ n71 : Nat, wY_run_71 post n71 0 0 2 0 0 a_actKind a_actNumber a_ways a_wayA a_wayB a_over a_registers a_lately a_visitCount) := by
  obtain ⟨G, tg, g0, Cl, j3, j4, j5, hl, s78⟩ := hOK
  obtain ⟨q', lc', n', lb', p1, p2, p3, p4, p5, p6, p7⟩ := xr_t (xr_steps (f_known := f_known) (f_liveSet := f_liveSet) (f_ordered := f_ordered) (f_loopSet := f_loopSet) (f_mergeSet := f_mergeSet) (f_written := f_written) (f_codeSize := f_codeSize) (f_workCount := f_workCount) (f_openCount := f_openCount) (f_outCount := 0) (f_carriedCount := 0) (a_actKind := a_actKind) (a_actNumber := a_actNumber) (a_wayKind := a_wayKind) (a_wayA := a_wayA) (a_wayB := a_wayB) (a_dominating := a_dominating) (a_forward := a_forward) (a_parent := a_parent) (a_place := a_place) (a_code := a_code) (a_codeArg := a_codeArg) (a_endOf := a_endOf) (a_elseOf := a_elseOf) (a_workKind := a_workKind) (a_workBlock := a_workBlock) (a_workRest := a_workRest) (a_openKind := a_openKind) (a_openTarget := a_openTarget) (a_registers := a_registers) (a_lately := a_lately) (a_visitCount := a_visitCount)) Cl hl s78 (q := 0) (rd := 0) (lc := 0) (lb := a_labels) (Nat.zero_le _) g0 rfl (by decide)
  obtain ⟨st, so, ln, kn, Rn, Ln, Vn, bn, a1, a2, a3⟩ := sm_sim (f_known := f_known) (f_liveSet := f_liveSet) (f_ordered := f_ordered) (f_loopSet := f_loopSet) (f_mergeSet := f_mergeSet) (f_written := f_written) (f_codeSize := f_codeSize) (f_workCount := f_workCount) (f_openCount := f_openCount) (a_actKind := a_actKind) (a_actNumber := a_actNumber) (a_wayKind := a_wayKind) (a_wayA := a_wayA) (a_wayB := a_wayB) (a_dominating := a_dominating) (a_forward := a_forward) (a_parent := a_parent) (a_place := a_place) (a_code := a_code) (a_codeArg := a_codeArg) (a_endOf := a_endOf) (a_elseOf := a_elseOf) (a_workKind := a_workKind) (a_workBlock := a_workBlock) (a_workRest := a_workRest) (a_openKind := a_openKind) (a_openTarget := a_openTarget) (fun x _ => rfl) hwY hac Cl hl s78 j3 j4 j5 80 0 0 q' n' lc' 0 a_registers a_lately a_visitCount lb' (fun _ => 0) rfl (by decide) p2 p3 p4 p5 p6 (by omega) (fun j hj => ⟨hV j hj, Nat.zero_le _⟩)
  refine ⟨st, so, ln, kn, Rn, Ln, Vn, bn, fun post hp => ?_, fun post ov hp => ⟨82, a3 post ov 82 (by omega) hp⟩⟩
  have := p7 post 10369 (by rw [Nat.zero_add]; exact a2 post 10369 (by omega) hp)
  exact ⟨_, this⟩
end
end
section
/-! act and way, each side -/
def rl_nb (x : Int32) : Prop := x < 0 ∨ nI 8 ≤ x
theorem rl_nb_n {b : Nat} (hb : b < 8) : ¬ rl_nb (nI b) := fun h => by
  rcases h with h | h
  · exact nI_pos (by omega) h
  · exact nI_ge (b := 8) hb (by decide) h
/-- an act is refused, or it is good -/
def rl_ab (v1 v2 v3 : Int32) : Prop := rl_nb v1 ∨ v2 < 0 ∨ 9 < v2 ∨ (¬ v2 < 7 ∧ (v3 < 0 ∨ ¬ v3 ≤ 2))
theorem rl_ac (v1 v2 v3 : Int32) : rl_ab v1 v2 v3 ∨ ∃ b kk, b < 8 ∧ kk ≤ 9 ∧ v1 = nI b ∧ v2 = nI kk ∧ (7 ≤ kk → ∃ r, r < 3 ∧ v3 = nI r) := by
  rcases pk_ix v1 (n := 8) (by decide) with h | h | ⟨b, b8, h1⟩
  · exact Or.inl (Or.inl (Or.inl h))
  · exact Or.inl (Or.inl (Or.inr h))
  by_cases n2 : v2 < 0
  · exact Or.inl (Or.inr (Or.inl n2))
  by_cases n9 : 9 < v2
  · exact Or.inl (Or.inr (Or.inr (Or.inl n9)))
  obtain ⟨kk, k9, h2⟩ := nI_of2 (M := 9) (n := 9) (by decide) n2 (Int32.not_lt.mp n9)
  by_cases l7 : v2 < 7
  · refine Or.inr ⟨b, kk, b8, k9, h1, h2, fun z => ?_⟩
    rw [h2] at l7
    have := (nI_ltI (a := kk) (b := 7) (by omega) (by decide)).mp l7
    omega
  by_cases n3 : v3 < 0
  · exact Or.inl (Or.inr (Or.inr (Or.inr ⟨l7, Or.inl n3⟩)))
  by_cases l3 : v3 ≤ 2
  · obtain ⟨r, r2, h3⟩ := nI_of2 (M := 2) (n := 2) (by decide) n3 l3
    exact Or.inr ⟨b, kk, b8, k9, h1, h2, fun _ => ⟨r, by omega, h3⟩⟩
  · exact Or.inl (Or.inr (Or.inr (Or.inr ⟨l7, Or.inr l3⟩)))
/-- a way is refused, or it is good -/
def rl_wb (v1 v2 v3 v4 : Int32) : Prop := rl_nb v1 ∨ v2 < 0 ∨ 4 < v2 ∨ (0 < v2 ∧ rl_nb v3) ∨ (1 < v2 ∧ rl_nb v4)
theorem rl_wc (v1 v2 v3 v4 : Int32) : rl_wb v1 v2 v3 v4 ∨ ∃ b kk x y, b < 8 ∧ kk ≤ 4 ∧ x < 8 ∧ y < 8 ∧ v1 = nI b ∧ v2 = nI kk ∧ (1 ≤ kk → v3 = nI x) ∧ (2 ≤ kk → v4 = nI y) := by
  rcases pk_ix v1 (n := 8) (by decide) with h | h | ⟨b, b8, h1⟩
  · exact Or.inl (Or.inl (Or.inl h))
  · exact Or.inl (Or.inl (Or.inr h))
  by_cases n2 : v2 < 0
  · exact Or.inl (Or.inr (Or.inl n2))
  by_cases n4 : 4 < v2
  · exact Or.inl (Or.inr (Or.inr (Or.inl n4)))
  obtain ⟨kk, k4, h2⟩ := nI_of2 (M := 4) (n := 4) (by decide) n2 (Int32.not_lt.mp n4)
  have g0 : 1 ≤ kk → 0 < v2 := fun z => by rw [h2]; exact (nI_ltI (a := 0) (b := kk) (by decide) (by omega)).mpr (by omega)
  have g1 : 2 ≤ kk → 1 < v2 := fun z => by rw [h2]; exact (nI_ltI (a := 1) (b := kk) (by decide) (by omega)).mpr (by omega)
  have blk : ∀ v : Int32, rl_nb v ∨ ∃ x, x < 8 ∧ v = nI x := fun v => by
    rcases pk_ix v (n := 8) (by decide) with h | h | h
    · exact Or.inl (Or.inl h)
    · exact Or.inl (Or.inr h)
    · exact Or.inr h
  by_cases z1 : 1 ≤ kk
  · rcases blk v3 with h | ⟨x, x8, h3⟩
    · exact Or.inl (Or.inr (Or.inr (Or.inr (Or.inl ⟨g0 z1, h⟩))))
    by_cases z2 : 2 ≤ kk
    · rcases blk v4 with h | ⟨y, y8, h4⟩
      · exact Or.inl (Or.inr (Or.inr (Or.inr (Or.inr ⟨g1 z2, h⟩))))
      · exact Or.inr ⟨b, kk, x, y, b8, k4, x8, y8, h1, h2, fun _ => h3, fun _ => h4⟩
    · exact Or.inr ⟨b, kk, x, 0, b8, k4, x8, by decide, h1, h2, fun _ => h3, fun z => absurd z z2⟩
  · exact Or.inr ⟨b, kk, 0, 0, b8, k4, by decide, by decide, h1, h2, fun z => absurd z z1, fun z => absurd z (by omega)⟩
section
variable {f_known f_liveSet f_ordered f_loopSet f_mergeSet f_written f_codeSize f_workCount f_openCount f_state f_outCount f_carriedCount f_labelCount : Int32} {a_actKind a_actNumber a_wayKind a_wayA a_wayB a_dominating a_forward a_parent a_place a_code a_codeArg a_endOf a_elseOf a_workKind a_workBlock a_workRest a_openKind a_openTarget a_registers a_lately a_visitCount a_labels : Nat → Int32}
theorem xa_no {post : Int32 → SX → Prop} {v1 v2 v3 : Int32} (bad : rl_ab v1 v2 v3) (hp : post 0 (f_known, f_liveSet, f_ordered, f_loopSet, f_mergeSet, f_written, f_codeSize, f_workCount, f_openCount, f_state, f_outCount, f_carriedCount, f_labelCount, a_actKind, a_actNumber, a_wayKind, a_wayA, a_wayB, a_dominating, a_forward, a_parent, a_place, a_code, a_codeArg, a_endOf, a_elseOf, a_workKind, a_workBlock, a_workRest, a_openKind, a_openTarget, a_registers, a_lately, a_visitCount, a_labels)) : wpX_act post (f_known, f_liveSet, f_ordered, f_loopSet, f_mergeSet, f_written, f_codeSize, f_workCount, f_openCount, f_state, f_outCount, f_carriedCount, f_labelCount, a_actKind, a_actNumber, a_wayKind, a_wayA, a_wayB, a_dominating, a_forward, a_parent, a_place, a_code, a_codeArg, a_endOf, a_elseOf, a_workKind, a_workBlock, a_workRest, a_openKind, a_openTarget, a_registers, a_lately, a_visitCount, a_labels) v1 v2 v3 := by
  unfold wpX_act
  dsimp only
  rcases pk_ix v1 (n := 8) (by decide) with h | h | ⟨b, b8, h1⟩
  · exact xw_nblk (Or.inl h) (br_t rfl hp)
  · exact xw_nblk (Or.inr h) (br_t rfl hp)
  subst h1
  refine xw_blk b8 (br_f (by decide) (br_c (fun _ => hp) fun n2 => br_c (fun _ => hp) fun n9 => br_c (fun l7 => ?_) fun n7 => br_c (fun _ => hp) fun n3 => br_c (fun l3 => ?_) fun _ => hp))
  · rcases bad with q | q | q | q
    · exact absurd q (rl_nb_n b8)
    · exact absurd q n2
    · exact absurd q n9
    · exact absurd l7 q.1
  · rcases bad with q | q | q | ⟨_, q | q⟩
    · exact absurd q (rl_nb_n b8)
    · exact absurd q n2
    · exact absurd q n9
    · exact absurd q n3
    · exact absurd l3 q
theorem xa_ok {post : Int32 → SX → Prop} {b kk : Nat} {v3 : Int32} (b8 : b < 8) (k9 : kk ≤ 9) (hn : 7 ≤ kk → ∃ r, r < 3 ∧ v3 = nI r) (hp : post 1 (f_known, f_liveSet, f_ordered, f_loopSet, f_mergeSet, f_written, f_codeSize, f_workCount, f_openCount, f_state, f_outCount, f_carriedCount, f_labelCount, upd a_actKind b (nI kk), upd a_actNumber b v3, a_wayKind, a_wayA, a_wayB, a_dominating, a_forward, a_parent, a_place, a_code, a_codeArg, a_endOf, a_elseOf, a_workKind, a_workBlock, a_workRest, a_openKind, a_openTarget, a_registers, a_lately, a_visitCount, a_labels)) : wpX_act post (f_known, f_liveSet, f_ordered, f_loopSet, f_mergeSet, f_written, f_codeSize, f_workCount, f_openCount, f_state, f_outCount, f_carriedCount, f_labelCount, a_actKind, a_actNumber, a_wayKind, a_wayA, a_wayB, a_dominating, a_forward, a_parent, a_place, a_code, a_codeArg, a_endOf, a_elseOf, a_workKind, a_workBlock, a_workRest, a_openKind, a_openTarget, a_registers, a_lately, a_visitCount, a_labels) (nI b) (nI kk) v3 := by
  have hin := vp_in_nI (N := 8) b8 (by decide)
  have fin : wX_act_34 post (nI b) (nI kk) v3 f_known f_liveSet f_ordered f_loopSet f_mergeSet f_written f_codeSize f_workCount f_openCount f_state f_outCount f_carriedCount f_labelCount a_actKind a_actNumber a_wayKind a_wayA a_wayB a_dominating a_forward a_parent a_place a_code a_codeArg a_endOf a_elseOf a_workKind a_workBlock a_workRest a_openKind a_openTarget a_registers a_lately a_visitCount a_labels := by
    unfold wX_act_34
    rw [nI_clamp (show b < 2 ^ 31 by omega), ms_vb (by omega)]
    exact ⟨hin, nm_e ⟨hin, nm_e hp⟩⟩
  unfold wpX_act
  dsimp only
  refine xw_blk b8 (br_f (by decide) (br_f (nI_pos (by omega)) (pk_lt 9 kk (fun z => by omega) fun _ => pk_lt kk 7 (fun _ => fin) fun z => ?_)))
  obtain ⟨r, r3, h3⟩ := hn z
  subst h3
  exact br_f (nI_pos (by omega)) (pk_le r 2 (fun _ => fin) fun z => by omega)
theorem xq_no {post : Int32 → SX → Prop} {v1 v2 v3 v4 : Int32} (bad : rl_wb v1 v2 v3 v4) (hp : post 0 (f_known, f_liveSet, f_ordered, f_loopSet, f_mergeSet, f_written, f_codeSize, f_workCount, f_openCount, f_state, f_outCount, f_carriedCount, f_labelCount, a_actKind, a_actNumber, a_wayKind, a_wayA, a_wayB, a_dominating, a_forward, a_parent, a_place, a_code, a_codeArg, a_endOf, a_elseOf, a_workKind, a_workBlock, a_workRest, a_openKind, a_openTarget, a_registers, a_lately, a_visitCount, a_labels)) : wpX_way post (f_known, f_liveSet, f_ordered, f_loopSet, f_mergeSet, f_written, f_codeSize, f_workCount, f_openCount, f_state, f_outCount, f_carriedCount, f_labelCount, a_actKind, a_actNumber, a_wayKind, a_wayA, a_wayB, a_dominating, a_forward, a_parent, a_place, a_code, a_codeArg, a_endOf, a_elseOf, a_workKind, a_workBlock, a_workRest, a_openKind, a_openTarget, a_registers, a_lately, a_visitCount, a_labels) v1 v2 v3 v4 := by
  unfold wpX_way
  dsimp only
  rcases pk_ix v1 (n := 8) (by decide) with h | h | ⟨b, b8, h1⟩
  · exact xw_nblk (Or.inl h) (br_t rfl hp)
  · exact xw_nblk (Or.inr h) (br_t rfl hp)
  subst h1
  refine xw_blk b8 (br_f (by decide) (br_c (fun _ => hp) fun n2 => br_c (fun _ => hp) fun n4 => ?_))
  obtain ⟨kk, k4, h2⟩ := nI_of2 (M := 4) (n := 4) (by decide) n2 (Int32.not_lt.mp n4)
  subst h2
  have bad' : (1 ≤ kk ∧ rl_nb v3) ∨ (2 ≤ kk ∧ rl_nb v4) := by
    rcases bad with q | q | q | q | q
    · exact absurd q (rl_nb_n b8)
    · exact absurd q n2
    · exact absurd q n4
    · exact Or.inl ⟨(nI_ltI (a := 0) (b := kk) (by decide) (by omega)).mp q.1, q.2⟩
    · exact Or.inr ⟨(nI_ltI (a := 1) (b := kk) (by decide) (by omega)).mp q.1, q.2⟩
  refine pk_le kk 0 (fun z => by omega) fun z => ?_
  rcases pk_ix v3 (n := 8) (by decide) with h | h | ⟨x, x8, h3⟩
  · exact xw_nblk (Or.inl h) (br_t rfl hp)
  · exact xw_nblk (Or.inr h) (br_t rfl hp)
  subst h3
  rcases bad' with q | q
  · exact absurd q.2 (rl_nb_n x8)
  refine xw_blk x8 (br_f (by decide) ?_)
  unfold wX_way_27
  exact pk_le kk 1 (fun z => by omega) fun _ => xw_nblk q.2 (br_t rfl hp)
theorem xq_ok {post : Int32 → SX → Prop} {b kk x y : Nat} {v3 v4 : Int32} (b8 : b < 8) (k4 : kk ≤ 4) (x8 : x < 8) (y8 : y < 8) (h3 : 1 ≤ kk → v3 = nI x) (h4 : 2 ≤ kk → v4 = nI y) (hp : post 1 (0, f_liveSet, f_ordered, f_loopSet, f_mergeSet, f_written, f_codeSize, f_workCount, f_openCount, f_state, f_outCount, f_carriedCount, f_labelCount, a_actKind, a_actNumber, upd a_wayKind b (nI (if 2 ≤ kk ∧ x = y then 1 else kk)), upd a_wayA b (nI (if 1 ≤ kk then x else 0)), upd a_wayB b (nI (if 2 ≤ kk then y else 0)), a_dominating, a_forward, a_parent, a_place, a_code, a_codeArg, a_endOf, a_elseOf, a_workKind, a_workBlock, a_workRest, a_openKind, a_openTarget, a_registers, a_lately, a_visitCount, a_labels)) : wpX_way post (f_known, f_liveSet, f_ordered, f_loopSet, f_mergeSet, f_written, f_codeSize, f_workCount, f_openCount, f_state, f_outCount, f_carriedCount, f_labelCount, a_actKind, a_actNumber, a_wayKind, a_wayA, a_wayB, a_dominating, a_forward, a_parent, a_place, a_code, a_codeArg, a_endOf, a_elseOf, a_workKind, a_workBlock, a_workRest, a_openKind, a_openTarget, a_registers, a_lately, a_visitCount, a_labels) (nI b) (nI kk) v3 v4 := by
  have hin := vp_in_nI (N := 8) b8 (by decide)
  have hc : (nI b).toNatClampNeg = b := nI_clamp (by omega)
  have hz : vp_nar .byte ((0 : Int32).toInt8.toInt32) = nI 0 := ms_vb (n := 0) (by decide)
  have h1 : vp_nar .byte ((1 : Int32).toInt8.toInt32) = nI 1 := ms_vb (n := 1) (by decide)
  unfold wpX_way
  dsimp only
  refine xw_blk b8 (br_f (by decide) (br_f (nI_pos (by omega)) (pk_lt 4 kk (fun z => by omega) fun _ => pk_le kk 0 (fun z => ?_) fun z => ?_)))
  · have : kk = 0 := by omega
    subst this
    unfold wX_way_27 wX_way_42 wX_way_57 wX_way_58 wX_way_75 wX_way_91
    rw [hc, hz, ms_vb (show 0 < 128 by decide)]
    exact br_t (by decide) (br_t (by decide) (br_t rfl ⟨hin, nm_e (br_t (by decide) ⟨hin, nm_e (br_t (by decide) ⟨hin, nm_e hp⟩)⟩)⟩))
  · rw [h3 (by omega)]
    refine xw_blk x8 (br_f (by decide) ?_)
    unfold wX_way_27
    refine pk_le kk 1 (fun w => ?_) (fun w => ?_)
    · have : kk = 1 := by omega
      subst this
      unfold wX_way_42 wX_way_57 wX_way_58 wX_way_75 wX_way_91
      rw [hc, hz, ms_vb (show 1 < 128 by decide), ms_vb (show x < 128 by omega)]
      exact br_t (by decide) (br_t rfl ⟨hin, nm_e (br_f (by decide) ⟨hin, nm_e (br_t (by decide) ⟨hin, nm_e hp⟩)⟩)⟩)
    · rw [h4 (by omega)]
      rw [if_pos (show 1 ≤ kk by omega), if_pos (show 2 ≤ kk by omega)] at hp
      refine xw_blk y8 (br_f (by decide) ?_)
      unfold wX_way_42 wX_way_57 wX_way_58 wX_way_75 wX_way_91
      rw [hc, h1, ms_vb (show kk < 128 by omega), ms_vb (show x < 128 by omega), ms_vb (show y < 128 by omega)]
      refine pk_le kk 1 (fun z => by omega) fun _ => pk_eq x y (fun e => ?_) (fun e => ?_)
      · rw [if_pos ⟨by omega, e⟩] at hp
        exact br_f (by decide) ⟨hin, nm_e (pk_le kk 0 (fun z => by omega) fun _ => ⟨hin, nm_e (pk_le kk 1 (fun z => by omega) fun _ => ⟨hin, nm_e hp⟩)⟩)⟩
      · rw [if_neg (fun z => e z.2)] at hp
        exact br_t rfl ⟨hin, nm_e (pk_le kk 0 (fun z => by omega) fun _ => ⟨hin, nm_e (pk_le kk 1 (fun z => by omega) fun _ => ⟨hin, nm_e hp⟩)⟩)⟩
end
section
variable {f_came f_said f_done : Int32} {a_acts a_numbers a_ways a_first a_second a_over a_reg a_last a_often : Nat → Int32}
theorem ya_no {post : Int32 → SY → Prop} {v1 v2 v3 : Int32} (bad : rl_ab v1 v2 v3) (hp : post 0 (f_came, f_said, f_done, a_acts, a_numbers, a_ways, a_first, a_second, a_over, a_reg, a_last, a_often)) : wpY_act post (f_came, f_said, f_done, a_acts, a_numbers, a_ways, a_first, a_second, a_over, a_reg, a_last, a_often) v1 v2 v3 := by
  unfold wpY_act
  dsimp only
  rcases pk_ix v1 (n := 8) (by decide) with h | h | ⟨b, b8, h1⟩
  · exact yw_nblk (Or.inl h) (br_t rfl hp)
  · exact yw_nblk (Or.inr h) (br_t rfl hp)
  subst h1
  refine yw_blk b8 (br_f (by decide) (br_c (fun _ => hp) fun n2 => br_c (fun _ => hp) fun n9 => br_c (fun l7 => ?_) fun n7 => br_c (fun _ => hp) fun n3 => br_c (fun l3 => ?_) fun _ => hp))
  · rcases bad with q | q | q | q
    · exact absurd q (rl_nb_n b8)
    · exact absurd q n2
    · exact absurd q n9
    · exact absurd l7 q.1
  · rcases bad with q | q | q | ⟨_, q | q⟩
    · exact absurd q (rl_nb_n b8)
    · exact absurd q n2
    · exact absurd q n9
    · exact absurd q n3
    · exact absurd l3 q
theorem ya_ok {post : Int32 → SY → Prop} {b kk : Nat} {v3 : Int32} (b8 : b < 8) (k9 : kk ≤ 9) (hn : 7 ≤ kk → ∃ r, r < 3 ∧ v3 = nI r) (hp : post 1 (f_came, f_said, f_done, upd a_acts b (nI kk), upd a_numbers b v3, a_ways, a_first, a_second, a_over, a_reg, a_last, a_often)) : wpY_act post (f_came, f_said, f_done, a_acts, a_numbers, a_ways, a_first, a_second, a_over, a_reg, a_last, a_often) (nI b) (nI kk) v3 := by
  have hin := vp_in_nI (N := 8) b8 (by decide)
  have fin : wY_act_35 post (nI b) (nI kk) v3 f_came f_said f_done a_acts a_numbers a_ways a_first a_second a_over a_reg a_last a_often := by
    unfold wY_act_35
    rw [nI_clamp (show b < 2 ^ 31 by omega)]
    exact ⟨hin, nm_e ⟨hin, nm_e hp⟩⟩
  unfold wpY_act
  dsimp only
  refine yw_blk b8 (br_f (by decide) (br_f (nI_pos (by omega)) (pk_lt 9 kk (fun z => by omega) fun _ => pk_lt kk 7 (fun _ => fin) fun z => ?_)))
  obtain ⟨r, r3, h3⟩ := hn z
  subst h3
  exact br_f (nI_pos (by omega)) (pk_le r 2 (fun _ => fin) fun z => by omega)
theorem yq_no {post : Int32 → SY → Prop} {v1 v2 v3 v4 : Int32} (bad : rl_wb v1 v2 v3 v4) (hp : post 0 (f_came, f_said, f_done, a_acts, a_numbers, a_ways, a_first, a_second, a_over, a_reg, a_last, a_often)) : wpY_way post (f_came, f_said, f_done, a_acts, a_numbers, a_ways, a_first, a_second, a_over, a_reg, a_last, a_often) v1 v2 v3 v4 := by
  unfold wpY_way
  dsimp only
  rcases pk_ix v1 (n := 8) (by decide) with h | h | ⟨b, b8, h1⟩
  · exact yw_nblk (Or.inl h) (br_t rfl hp)
  · exact yw_nblk (Or.inr h) (br_t rfl hp)
  subst h1
  refine yw_blk b8 (br_f (by decide) (br_c (fun _ => hp) fun n2 => br_c (fun _ => hp) fun n4 => ?_))
  obtain ⟨kk, k4, h2⟩ := nI_of2 (M := 4) (n := 4) (by decide) n2 (Int32.not_lt.mp n4)
  subst h2
  have bad' : (1 ≤ kk ∧ rl_nb v3) ∨ (2 ≤ kk ∧ rl_nb v4) := by
    rcases bad with q | q | q | q | q
    · exact absurd q (rl_nb_n b8)
    · exact absurd q n2
    · exact absurd q n4
    · exact Or.inl ⟨(nI_ltI (a := 0) (b := kk) (by decide) (by omega)).mp q.1, q.2⟩
    · exact Or.inr ⟨(nI_ltI (a := 1) (b := kk) (by decide) (by omega)).mp q.1, q.2⟩
  refine pk_lt kk 1 (fun z => by omega) fun z => ?_
  rcases pk_ix v3 (n := 8) (by decide) with h | h | ⟨x, x8, h3⟩
  · exact yw_nblk (Or.inl h) (br_t rfl hp)
  · exact yw_nblk (Or.inr h) (br_t rfl hp)
  subst h3
  rcases bad' with q | q
  · exact absurd q.2 (rl_nb_n x8)
  refine yw_blk x8 (br_f (by decide) ?_)
  unfold wY_way_30
  exact pk_lt kk 2 (fun z => by omega) fun _ => yw_nblk q.2 (br_t rfl hp)
theorem yq_ok {post : Int32 → SY → Prop} {b kk x y : Nat} {v3 v4 : Int32} (b8 : b < 8) (k4 : kk ≤ 4) (x8 : x < 8) (y8 : y < 8) (h3 : 1 ≤ kk → v3 = nI x) (h4 : 2 ≤ kk → v4 = nI y) (hp : post 1 (f_came, f_said, f_done, a_acts, a_numbers, upd a_ways b (nI kk), upd a_first b (nI (if 1 ≤ kk then x else 0)), upd a_second b (nI (if 2 ≤ kk then y else 0)), a_over, a_reg, a_last, a_often)) : wpY_way post (f_came, f_said, f_done, a_acts, a_numbers, a_ways, a_first, a_second, a_over, a_reg, a_last, a_often) (nI b) (nI kk) v3 v4 := by
  have hin := vp_in_nI (N := 8) b8 (by decide)
  have hc : (nI b).toNatClampNeg = b := nI_clamp (by omega)
  unfold wpY_way
  dsimp only
  refine yw_blk b8 (br_f (by decide) (br_f (nI_pos (by omega)) (pk_lt 4 kk (fun z => by omega) fun _ => pk_lt kk 1 (fun z => ?_) fun z => ?_)))
  · have : kk = 0 := by omega
    subst this
    unfold wY_way_30 wY_way_46 wY_way_68
    rw [hc]
    exact br_t (by decide) ⟨hin, nm_e (br_t (by decide) ⟨hin, nm_e (br_t (by decide) ⟨hin, nm_e hp⟩)⟩)⟩
  · rw [h3 (by omega)]
    refine yw_blk x8 (br_f (by decide) ?_)
    unfold wY_way_30
    refine pk_lt kk 2 (fun w => ?_) (fun w => ?_)
    · have : kk = 1 := by omega
      subst this
      unfold wY_way_46 wY_way_68
      rw [hc]
      exact ⟨hin, nm_e (br_f (by decide) ⟨hin, nm_e (br_t (by decide) ⟨hin, nm_e hp⟩)⟩)⟩
    · rw [h4 (by omega)]
      rw [if_pos (show 1 ≤ kk by omega), if_pos (show 2 ≤ kk by omega)] at hp
      refine yw_blk y8 (br_f (by decide) ?_)
      unfold wY_way_46 wY_way_68
      rw [hc]
      exact ⟨hin, nm_e (pk_lt kk 1 (fun z => by omega) fun _ => ⟨hin, nm_e (pk_lt kk 2 (fun z => by omega) fun _ => ⟨hin, nm_e hp⟩)⟩)⟩
end
end
section
/-! the relation, and what is owed -/
/-- the two objects hold the same blocks, registers and counts; what the component knows of the blocks is so, and what it has written is right -/
def i_Rel (k : Nat) (u : SX) (v : SY) : Prop := match u, v with
  | (f_known, f_liveSet, f_ordered, f_loopSet, f_mergeSet, f_written, f_codeSize, f_workCount, f_openCount, f_state, f_outCount, f_carriedCount, f_labelCount, a_actKind, a_actNumber, a_wayKind, a_wayA, a_wayB, a_dominating, a_forward, a_parent, a_place, a_code, a_codeArg, a_endOf, a_elseOf, a_workKind, a_workBlock, a_workRest, a_openKind, a_openTarget, a_registers, a_lately, a_visitCount, a_labels), (f_came, f_said, f_done, a_acts, a_numbers, a_ways, a_first, a_second, a_over, a_reg, a_last, a_often) => (∃ wy A B : Nat → Nat, rl_F wy A B f_known f_liveSet f_ordered f_loopSet f_mergeSet f_written a_actKind a_actNumber a_wayKind a_wayA a_wayB a_dominating a_forward a_parent a_place a_code a_codeArg a_endOf a_elseOf a_ways) ∧ f_came = f_state ∧ f_said = f_outCount ∧ f_done = f_carriedCount ∧ a_acts = a_actKind ∧ a_numbers = a_actNumber ∧ a_first = a_wayA ∧ a_second = a_wayB ∧ a_reg = a_registers ∧ a_last = a_lately ∧ a_often = a_visitCount
theorem rl_le4 {q : Prop} [Decidable q] {kk : Nat} (h : kk ≤ 4) : (if q then 1 else kk) ≤ 4 := by split <;> omega
theorem i_up {k : Nat} {u : SX} {v : SY} (h : i_Rel k u v) : i_Rel (k + 5) u v := h
section
variable {f_known f_liveSet f_ordered f_loopSet f_mergeSet f_written f_codeSize f_workCount f_openCount f_state f_outCount f_carriedCount f_labelCount : Int32} {a_actKind a_actNumber a_wayKind a_wayA a_wayB a_dominating a_forward a_parent a_place a_code a_codeArg a_endOf a_elseOf a_workKind a_workBlock a_workRest a_openKind a_openTarget a_registers a_lately a_visitCount a_labels : Nat → Int32}
variable {a_ways a_over : Nat → Int32} {wy A B : Nat → Nat}
theorem rl_mk {k : Nat} (hF : rl_F wy A B f_known f_liveSet f_ordered f_loopSet f_mergeSet f_written a_actKind a_actNumber a_wayKind a_wayA a_wayB a_dominating a_forward a_parent a_place a_code a_codeArg a_endOf a_elseOf a_ways) : i_Rel k (f_known, f_liveSet, f_ordered, f_loopSet, f_mergeSet, f_written, f_codeSize, f_workCount, f_openCount, f_state, f_outCount, f_carriedCount, f_labelCount, a_actKind, a_actNumber, a_wayKind, a_wayA, a_wayB, a_dominating, a_forward, a_parent, a_place, a_code, a_codeArg, a_endOf, a_elseOf, a_workKind, a_workBlock, a_workRest, a_openKind, a_openTarget, a_registers, a_lately, a_visitCount, a_labels) (f_state, f_outCount, f_carriedCount, a_actKind, a_actNumber, a_ways, a_wayA, a_wayB, a_over, a_registers, a_lately, a_visitCount) := ⟨⟨wy, A, B, hF⟩, rfl, rfl, rfl, rfl, rfl, rfl, rfl, rfl, rfl, rfl⟩
end
theorem rl_el {P : SX → SY → Prop} (h : ∀ (f_known f_liveSet f_ordered f_loopSet f_mergeSet f_written f_codeSize f_workCount f_openCount f_state f_outCount f_carriedCount f_labelCount : Int32) (a_actKind a_actNumber a_wayKind a_wayA a_wayB a_dominating a_forward a_parent a_place a_code a_codeArg a_endOf a_elseOf a_workKind a_workBlock a_workRest a_openKind a_openTarget a_registers a_lately a_visitCount a_labels a_ways a_over : Nat → Int32) (wy A B : Nat → Nat), rl_F wy A B f_known f_liveSet f_ordered f_loopSet f_mergeSet f_written a_actKind a_actNumber a_wayKind a_wayA a_wayB a_dominating a_forward a_parent a_place a_code a_codeArg a_endOf a_elseOf a_ways → P (f_known, f_liveSet, f_ordered, f_loopSet, f_mergeSet, f_written, f_codeSize, f_workCount, f_openCount, f_state, f_outCount, f_carriedCount, f_labelCount, a_actKind, a_actNumber, a_wayKind, a_wayA, a_wayB, a_dominating, a_forward, a_parent, a_place, a_code, a_codeArg, a_endOf, a_elseOf, a_workKind, a_workBlock, a_workRest, a_openKind, a_openTarget, a_registers, a_lately, a_visitCount, a_labels) (f_state, f_outCount, f_carriedCount, a_actKind, a_actNumber, a_ways, a_wayA, a_wayB, a_over, a_registers, a_lately, a_visitCount)) {k : Nat} : ∀ {u : SX} {v : SY}, i_Rel k u v → P u v
  | (f_known, f_liveSet, f_ordered, f_loopSet, f_mergeSet, f_written, f_codeSize, f_workCount, f_openCount, f_state, f_outCount, f_carriedCount, f_labelCount, a_actKind, a_actNumber, a_wayKind, a_wayA, a_wayB, a_dominating, a_forward, a_parent, a_place, a_code, a_codeArg, a_endOf, a_elseOf, a_workKind, a_workBlock, a_workRest, a_openKind, a_openTarget, a_registers, a_lately, a_visitCount, a_labels), (f_came, f_said, f_done, a_acts, a_numbers, a_ways, a_first, a_second, a_over, a_reg, a_last, a_often), ⟨⟨wy, A, B, hF⟩, e1, e2, e3, e4, e5, e6, e7, e8, e9, e10⟩ => by
    subst e1 e2 e3 e4 e5 e6 e7 e8 e9 e10
    exact h _ _ _ _ _ _ _ _ _ _ _ _ _ _ _ _ _ _ _ _ _ _ _ _ _ _ _ _ _ _ _ _ _ _ _ _ _ wy A B hF
theorem i_vc0 : wpX_init (fun u => wpY_init (fun v => i_Rel 0 u v)) := by
  have z : wy_R (fun _ => 0) (fun _ => 0) (fun _ => 0) (fun _ => 0) (fun _ => 0) (fun _ => 0) := fun b _ => ⟨rfl, rfl, rfl, Nat.zero_le 4, Nat.zero_lt_succ 7, Nat.zero_lt_succ 7⟩
  refine ⟨⟨fun _ => 0, fun _ => 0, fun _ => 0, z, z, fun b _ => ⟨0, by omega, rfl, fun z => by omega⟩, fun z => absurd rfl z, fun z => absurd rfl z⟩, rfl, rfl, rfl, rfl, rfl, rfl, rfl, rfl, rfl, rfl⟩
section
variable {f_known f_liveSet f_ordered f_loopSet f_mergeSet f_written f_codeSize f_workCount f_openCount f_state f_outCount f_carriedCount f_labelCount : Int32} {a_actKind a_actNumber a_wayKind a_wayA a_wayB a_dominating a_forward a_parent a_place a_code a_codeArg a_endOf a_elseOf a_workKind a_workBlock a_workRest a_openKind a_openTarget a_registers a_lately a_visitCount a_labels : Nat → Int32}
variable {a_ways a_over : Nat → Int32} {wy A B : Nat → Nat} {k : Nat}
theorem rl_act (hF : rl_F wy A B f_known f_liveSet f_ordered f_loopSet f_mergeSet f_written a_actKind a_actNumber a_wayKind a_wayA a_wayB a_dominating a_forward a_parent a_place a_code a_codeArg a_endOf a_elseOf a_ways) (v1 v2 v3 : Int32) : wpX_act (fun r u' => wpY_act (fun r' v' => r' = r ∧ i_Rel k u' v') (f_state, f_outCount, f_carriedCount, a_actKind, a_actNumber, a_ways, a_wayA, a_wayB, a_over, a_registers, a_lately, a_visitCount) v1 v2 v3) (f_known, f_liveSet, f_ordered, f_loopSet, f_mergeSet, f_written, f_codeSize, f_workCount, f_openCount, f_state, f_outCount, f_carriedCount, f_labelCount, a_actKind, a_actNumber, a_wayKind, a_wayA, a_wayB, a_dominating, a_forward, a_parent, a_place, a_code, a_codeArg, a_endOf, a_elseOf, a_workKind, a_workBlock, a_workRest, a_openKind, a_openTarget, a_registers, a_lately, a_visitCount, a_labels) v1 v2 v3 := by
  rcases rl_ac v1 v2 v3 with bad | ⟨b, kk, b8, k9, h1, h2, h3⟩
  · exact xa_no bad (ya_no bad ⟨rfl, rl_mk hF⟩)
  · subst h1 h2
    obtain ⟨f1, f2, f3, f4, f5⟩ := hF
    refine xa_ok b8 k9 h3 (ya_ok b8 k9 h3 ⟨rfl, rl_mk ⟨f1, f2, fun j hj => ?_, f4, f5⟩⟩)
    by_cases z : j = b
    · subst z
      rw [pk_us, pk_us]
      exact ⟨kk, k9, rfl, h3⟩
    · rw [pk_un z, pk_un z]
      exact f3 j hj
theorem rl_way (hF : rl_F wy A B f_known f_liveSet f_ordered f_loopSet f_mergeSet f_written a_actKind a_actNumber a_wayKind a_wayA a_wayB a_dominating a_forward a_parent a_place a_code a_codeArg a_endOf a_elseOf a_ways) (v1 v2 v3 v4 : Int32) : wpX_way (fun r u' => wpY_way (fun r' v' => r' = r ∧ i_Rel k u' v') (f_state, f_outCount, f_carriedCount, a_actKind, a_actNumber, a_ways, a_wayA, a_wayB, a_over, a_registers, a_lately, a_visitCount) v1 v2 v3 v4) (f_known, f_liveSet, f_ordered, f_loopSet, f_mergeSet, f_written, f_codeSize, f_workCount, f_openCount, f_state, f_outCount, f_carriedCount, f_labelCount, a_actKind, a_actNumber, a_wayKind, a_wayA, a_wayB, a_dominating, a_forward, a_parent, a_place, a_code, a_codeArg, a_endOf, a_elseOf, a_workKind, a_workBlock, a_workRest, a_openKind, a_openTarget, a_registers, a_lately, a_visitCount, a_labels) v1 v2 v3 v4 := by
  rcases rl_wc v1 v2 v3 v4 with bad | ⟨b, kk, x, y, b8, k4, x8, y8, h1, h2, h3, h4⟩
  · exact xq_no bad (yq_no bad ⟨rfl, rl_mk hF⟩)
  · subst h1 h2
    obtain ⟨f1, f2, f3, f4, f5⟩ := hF
    refine xq_ok b8 k4 x8 y8 h3 h4 (yq_ok b8 k4 x8 y8 h3 h4 ⟨rfl, rl_mk (wy := wr_pu wy b kk) (A := wr_pu A b (if 1 ≤ kk then x else 0)) (B := wr_pu B b (if 2 ≤ kk then y else 0)) ⟨fun j hj => ?_, fun j hj => ?_, f3, fun z => absurd rfl z, fun z => absurd rfl z⟩⟩)
    · unfold wr_pu
      by_cases z : j = b
      · subst z
        rw [pk_us, pk_us, pk_us, if_pos rfl, if_pos rfl, if_pos rfl]
        exact ⟨rfl, rfl, rfl, k4, by split <;> omega, by split <;> omega⟩
      · rw [pk_un z, pk_un z, pk_un z, if_neg z, if_neg z, if_neg z]
        exact f1 j hj
    · unfold rl_n wr_pu
      by_cases z : j = b
      · subst z
        rw [pk_us, pk_us, pk_us, if_pos rfl, if_pos rfl, if_pos rfl]
        refine ⟨congrArg nI ?_, rfl, rfl, rl_le4 k4, by split <;> omega, by split <;> omega⟩
        by_cases w : 2 ≤ kk
        · rw [if_pos w, if_pos (show 1 ≤ kk by omega)]
        · rw [if_neg (fun q => w q.1), if_neg (fun q => w q.1)]
      · rw [pk_un z, pk_un z, pk_un z, if_neg z, if_neg z, if_neg z]
        exact f2 j hj
theorem rl_live (hF : rl_F wy A B f_known f_liveSet f_ordered f_loopSet f_mergeSet f_written a_actKind a_actNumber a_wayKind a_wayA a_wayB a_dominating a_forward a_parent a_place a_code a_codeArg a_endOf a_elseOf a_ways) : wpX_live (fun r u' => wpY_live (fun r' => r' = r ∧ i_Rel k u' (f_state, f_outCount, f_carriedCount, a_actKind, a_actNumber, a_ways, a_wayA, a_wayB, a_over, a_registers, a_lately, a_visitCount)) (f_state, f_outCount, f_carriedCount, a_actKind, a_actNumber, a_ways, a_wayA, a_wayB, a_over, a_registers, a_lately, a_visitCount)) (f_known, f_liveSet, f_ordered, f_loopSet, f_mergeSet, f_written, f_codeSize, f_workCount, f_openCount, f_state, f_outCount, f_carriedCount, f_labelCount, a_actKind, a_actNumber, a_wayKind, a_wayA, a_wayB, a_dominating, a_forward, a_parent, a_place, a_code, a_codeArg, a_endOf, a_elseOf, a_workKind, a_workBlock, a_workRest, a_openKind, a_openTarget, a_registers, a_lately, a_visitCount, a_labels) := by
  unfold wpX_live
  dsimp only
  refine rl_learn hF fun kn ls od lo me wr dom fo pa pl hF' hk => yw_live hF'.1 ⟨?_, rl_mk hF'⟩
  exact (hF'.2.2.2.1 hk).1.symm
theorem rl_dom (hF : rl_F wy A B f_known f_liveSet f_ordered f_loopSet f_mergeSet f_written a_actKind a_actNumber a_wayKind a_wayA a_wayB a_dominating a_forward a_parent a_place a_code a_codeArg a_endOf a_elseOf a_ways) (v1 : Int32) : wpX_dominators (fun r u' => wpY_dominators (fun r' => r' = r ∧ i_Rel k u' (f_state, f_outCount, f_carriedCount, a_actKind, a_actNumber, a_ways, a_wayA, a_wayB, a_over, a_registers, a_lately, a_visitCount)) (f_state, f_outCount, f_carriedCount, a_actKind, a_actNumber, a_ways, a_wayA, a_wayB, a_over, a_registers, a_lately, a_visitCount) v1) (f_known, f_liveSet, f_ordered, f_loopSet, f_mergeSet, f_written, f_codeSize, f_workCount, f_openCount, f_state, f_outCount, f_carriedCount, f_labelCount, a_actKind, a_actNumber, a_wayKind, a_wayA, a_wayB, a_dominating, a_forward, a_parent, a_place, a_code, a_codeArg, a_endOf, a_elseOf, a_workKind, a_workBlock, a_workRest, a_openKind, a_openTarget, a_registers, a_lately, a_visitCount, a_labels) v1 := by
  unfold wpX_dominators
  dsimp only
  rcases pk_ix v1 (n := 8) (by decide) with h | h | ⟨b, b8, h1⟩
  · exact xw_nblk (Or.inl h) (br_t rfl (yw_ndom (Or.inl h) hF.1 ⟨rfl, rl_mk hF⟩))
  · exact xw_nblk (Or.inr h) (br_t rfl (yw_ndom (Or.inr h) hF.1 ⟨rfl, rl_mk hF⟩))
  · subst h1
    refine xw_blk b8 (br_f (by decide) (rl_learn hF fun kn ls od lo me wr dom fo pa pl hF' hk => ⟨vp_in_nI b8 (by decide), ?_⟩))
    refine yw_dom b8 hF'.1 ⟨?_, rl_mk hF'⟩
    rw [nI_clamp (show b < 2 ^ 31 by omega)]
    exact ((hF'.2.2.2.1 hk).2.2.2.1 b b8).symm
theorem rl_regular (hF : rl_F wy A B f_known f_liveSet f_ordered f_loopSet f_mergeSet f_written a_actKind a_actNumber a_wayKind a_wayA a_wayB a_dominating a_forward a_parent a_place a_code a_codeArg a_endOf a_elseOf a_ways) : wpX_regular (fun r u' => wpY_regular (fun r' v' => r' = r ∧ i_Rel k u' v') (f_state, f_outCount, f_carriedCount, a_actKind, a_actNumber, a_ways, a_wayA, a_wayB, a_over, a_registers, a_lately, a_visitCount)) (f_known, f_liveSet, f_ordered, f_loopSet, f_mergeSet, f_written, f_codeSize, f_workCount, f_openCount, f_state, f_outCount, f_carriedCount, f_labelCount, a_actKind, a_actNumber, a_wayKind, a_wayA, a_wayB, a_dominating, a_forward, a_parent, a_place, a_code, a_codeArg, a_endOf, a_elseOf, a_workKind, a_workBlock, a_workRest, a_openKind, a_openTarget, a_registers, a_lately, a_visitCount, a_labels) := by
  unfold wpX_regular
  dsimp only
  refine rl_isReg hF fun kn ls od lo me wr dom fo pa pl hF' hk => ⟨?_, yw_regular hF'.1 fun ov => ⟨rfl, rl_mk hF'⟩⟩
  cases gr_Z (gr_F (gr_e wy A B)) 8
  · exact narrow_b1
  · exact narrow_b0
theorem rl_loops (hF : rl_F wy A B f_known f_liveSet f_ordered f_loopSet f_mergeSet f_written a_actKind a_actNumber a_wayKind a_wayA a_wayB a_dominating a_forward a_parent a_place a_code a_codeArg a_endOf a_elseOf a_ways) : wpX_loops (fun r u' => wpY_loops (fun r' v' => r' = r ∧ i_Rel k u' v') (f_state, f_outCount, f_carriedCount, a_actKind, a_actNumber, a_ways, a_wayA, a_wayB, a_over, a_registers, a_lately, a_visitCount)) (f_known, f_liveSet, f_ordered, f_loopSet, f_mergeSet, f_written, f_codeSize, f_workCount, f_openCount, f_state, f_outCount, f_carriedCount, f_labelCount, a_actKind, a_actNumber, a_wayKind, a_wayA, a_wayB, a_dominating, a_forward, a_parent, a_place, a_code, a_codeArg, a_endOf, a_elseOf, a_workKind, a_workBlock, a_workRest, a_openKind, a_openTarget, a_registers, a_lately, a_visitCount, a_labels) := by
  unfold wpX_loops
  dsimp only
  refine rl_learn hF fun kn ls od lo me wr dom fo pa pl hF' hk => yw_loops hF'.1 fun ov => ⟨?_, rl_mk hF'⟩
  exact (hF'.2.2.2.1 hk).2.1.symm
theorem rl_merges (hF : rl_F wy A B f_known f_liveSet f_ordered f_loopSet f_mergeSet f_written a_actKind a_actNumber a_wayKind a_wayA a_wayB a_dominating a_forward a_parent a_place a_code a_codeArg a_endOf a_elseOf a_ways) : wpX_merges (fun r u' => wpY_merges (fun r' v' => r' = r ∧ i_Rel k u' v') (f_state, f_outCount, f_carriedCount, a_actKind, a_actNumber, a_ways, a_wayA, a_wayB, a_over, a_registers, a_lately, a_visitCount)) (f_known, f_liveSet, f_ordered, f_loopSet, f_mergeSet, f_written, f_codeSize, f_workCount, f_openCount, f_state, f_outCount, f_carriedCount, f_labelCount, a_actKind, a_actNumber, a_wayKind, a_wayA, a_wayB, a_dominating, a_forward, a_parent, a_place, a_code, a_codeArg, a_endOf, a_elseOf, a_workKind, a_workBlock, a_workRest, a_openKind, a_openTarget, a_registers, a_lately, a_visitCount, a_labels) := by
  unfold wpX_merges
  dsimp only
  refine rl_learn hF fun kn ls od lo me wr dom fo pa pl hF' hk => yw_merges hF'.1 fun ov => ⟨?_, rl_mk hF'⟩
  exact (hF'.2.2.2.1 hk).2.2.1.symm
theorem rl_run2 {sz : Nat} (hF : rl_F wy A B f_known f_liveSet f_ordered f_loopSet f_mergeSet f_written a_actKind a_actNumber a_wayKind a_wayA a_wayB a_dominating a_forward a_parent a_place a_code a_codeArg a_endOf a_elseOf a_ways) (hr : gr_Z (gr_F (gr_e wy A B)) 8 = false) (hOK : wr_OK (rl_n wy A B) A B a_code a_codeArg a_endOf a_elseOf sz) (v1 v2 : Int32) : ∀ r1 : Nat → Int32, r1 = upd a_registers 0 v1 → ∀ r2 : Nat → Int32, r2 = upd r1 1 v2 → ∀ r3 : Nat → Int32, r3 = upd r2 2 0 → ∃ n51 : Nat, wX_run_51 (fun r u' => wpY_run (fun r' v' => r' = r ∧ i_Rel k u' v') (f_state, f_outCount, f_carriedCount, a_actKind, a_actNumber, a_ways, a_wayA, a_wayB, a_over, a_registers, a_lately, a_visitCount) v1 v2) f_known f_liveSet f_ordered f_loopSet f_mergeSet f_written f_codeSize f_workCount f_openCount f_state 0 0 0 n51 0 a_actKind a_actNumber a_wayKind a_wayA a_wayB a_dominating a_forward a_parent a_place a_code a_codeArg a_endOf a_elseOf a_workKind a_workBlock a_workRest a_openKind a_openTarget r3 a_lately a_visitCount a_labels := by
  refine nm_e (nm_e (nm_e ⟨9, ?_⟩))
  obtain ⟨st, so, ln, kn, Rn, Ln, Vn, bn, hX, hY⟩ := rl_loop (f_known := f_known) (f_liveSet := f_liveSet) (f_ordered := f_ordered) (f_loopSet := f_loopSet) (f_mergeSet := f_mergeSet) (f_written := f_written) (f_codeSize := f_codeSize) (f_workCount := f_workCount) (f_openCount := f_openCount) (a_actKind := a_actKind) (a_actNumber := a_actNumber) (a_wayKind := a_wayKind) (a_wayA := a_wayA) (a_wayB := a_wayB) (a_dominating := a_dominating) (a_forward := a_forward) (a_parent := a_parent) (a_place := a_place) (a_code := a_code) (a_codeArg := a_codeArg) (a_endOf := a_endOf) (a_elseOf := a_elseOf) (a_workKind := a_workKind) (a_workBlock := a_workBlock) (a_workRest := a_workRest) (a_openKind := a_openKind) (a_openTarget := a_openTarget) (a_registers := upd (upd (upd a_registers 0 v1) 1 v2) 2 0) (a_lately := a_lately) (a_visitCount := cr_clr 8 0 a_visitCount) (a_labels := a_labels) hF.1 hF.2.2.1 hOK (fun j hj => cr_clr_0 8 0 a_visitCount j (Or.inl ⟨Nat.zero_le _, by omega⟩))
  refine rl_51 8 0 a_visitCount rfl (hX _ ?_)
  unfold wpY_run
  dsimp only
  refine yw_regular hF.1 fun ov => ?_
  dsimp only
  rw [hr]
  exact br_f (by decide) (nm_e (nm_e (nm_e ⟨9, rl_47 8 0 a_visitCount rfl (hY _ ov ⟨rfl, rl_mk hF⟩)⟩)))
theorem rl_run (hF : rl_F wy A B f_known f_liveSet f_ordered f_loopSet f_mergeSet f_written a_actKind a_actNumber a_wayKind a_wayA a_wayB a_dominating a_forward a_parent a_place a_code a_codeArg a_endOf a_elseOf a_ways) (v1 v2 : Int32) : wpX_run (fun r u' => wpY_run (fun r' v' => r' = r ∧ i_Rel k u' v') (f_state, f_outCount, f_carriedCount, a_actKind, a_actNumber, a_ways, a_wayA, a_wayB, a_over, a_registers, a_lately, a_visitCount) v1 v2) (f_known, f_liveSet, f_ordered, f_loopSet, f_mergeSet, f_written, f_codeSize, f_workCount, f_openCount, f_state, f_outCount, f_carriedCount, f_labelCount, a_actKind, a_actNumber, a_wayKind, a_wayA, a_wayB, a_dominating, a_forward, a_parent, a_place, a_code, a_codeArg, a_endOf, a_elseOf, a_workKind, a_workBlock, a_workRest, a_openKind, a_openTarget, a_registers, a_lately, a_visitCount, a_labels) v1 v2 := by
  unfold wpX_run
  dsimp only
  refine rl_isReg hF fun f_known f_liveSet f_ordered f_loopSet f_mergeSet f_written a_dominating a_forward a_parent a_place hF' hk => ?_
  dsimp only
  have hK := hF'.2.2.2.1 hk
  cases hr : gr_Z (gr_F (gr_e wy A B)) 8 with
  | true =>
    refine br_t rfl ?_
    unfold wpY_run
    dsimp only
    refine yw_regular hF'.1 fun ov => ?_
    dsimp only
    rw [hr]
    exact br_t rfl ⟨rfl, rl_mk hF'⟩
  | false =>
    refine br_f (by decide) ?_
    obtain ⟨pr, p, hg, hpr, hpl⟩ := rl_reg hF'.1 hK hr
    obtain ⟨k1, k2, k3, k4, k5, k6, k7⟩ := hK
    subst k1 k2 k3
    refine xw_write hg hF'.2.1 k4 hpr hpl (fun z => ?_) (fun nw no sz co ca eo el wK wB wR oK oT lb hOK => ?_)
    · obtain ⟨sz, hOK⟩ := hF'.2.2.2.2 hk z
      exact rl_run2 hF' hr hOK v1 v2
    · exact rl_run2 ⟨hF'.1, hF'.2.1, hF'.2.2.1, hF'.2.2.2.1, fun _ _ => ⟨sz, hOK⟩⟩ hr hOK v1 v2
theorem rl_register (hF : rl_F wy A B f_known f_liveSet f_ordered f_loopSet f_mergeSet f_written a_actKind a_actNumber a_wayKind a_wayA a_wayB a_dominating a_forward a_parent a_place a_code a_codeArg a_endOf a_elseOf a_ways) (v1 : Int32) : wpX_register (fun r => wpY_register (fun r' => r' = r ∧ i_Rel k (f_known, f_liveSet, f_ordered, f_loopSet, f_mergeSet, f_written, f_codeSize, f_workCount, f_openCount, f_state, f_outCount, f_carriedCount, f_labelCount, a_actKind, a_actNumber, a_wayKind, a_wayA, a_wayB, a_dominating, a_forward, a_parent, a_place, a_code, a_codeArg, a_endOf, a_elseOf, a_workKind, a_workBlock, a_workRest, a_openKind, a_openTarget, a_registers, a_lately, a_visitCount, a_labels) (f_state, f_outCount, f_carriedCount, a_actKind, a_actNumber, a_ways, a_wayA, a_wayB, a_over, a_registers, a_lately, a_visitCount)) (f_state, f_outCount, f_carriedCount, a_actKind, a_actNumber, a_ways, a_wayA, a_wayB, a_over, a_registers, a_lately, a_visitCount) v1) (f_known, f_liveSet, f_ordered, f_loopSet, f_mergeSet, f_written, f_codeSize, f_workCount, f_openCount, f_state, f_outCount, f_carriedCount, f_labelCount, a_actKind, a_actNumber, a_wayKind, a_wayA, a_wayB, a_dominating, a_forward, a_parent, a_place, a_code, a_codeArg, a_endOf, a_elseOf, a_workKind, a_workBlock, a_workRest, a_openKind, a_openTarget, a_registers, a_lately, a_visitCount, a_labels) v1 := by
  unfold wpX_register wpY_register
  dsimp only
  have fin : ∀ r : Int32, r = r ∧ i_Rel k (f_known, f_liveSet, f_ordered, f_loopSet, f_mergeSet, f_written, f_codeSize, f_workCount, f_openCount, f_state, f_outCount, f_carriedCount, f_labelCount, a_actKind, a_actNumber, a_wayKind, a_wayA, a_wayB, a_dominating, a_forward, a_parent, a_place, a_code, a_codeArg, a_endOf, a_elseOf, a_workKind, a_workBlock, a_workRest, a_openKind, a_openTarget, a_registers, a_lately, a_visitCount, a_labels) (f_state, f_outCount, f_carriedCount, a_actKind, a_actNumber, a_ways, a_wayA, a_wayB, a_over, a_registers, a_lately, a_visitCount) := fun r => ⟨rfl, rl_mk hF⟩
  refine br_c (fun h => br_t h (fin 0)) fun h => br_c (fun h2 => ?_) (fun h2 => br_f h (br_t (Int32.not_le.mp h2) (fin 0)))
  obtain ⟨r, r2, hr⟩ := nI_of2 (M := 2) (n := 2) (by decide) h h2
  subst hr
  exact ⟨vp_in_nI (by omega) (by decide), br_f h (br_f (Int32.not_lt.mpr h2) ⟨vp_in_nI (by omega) (by decide), fin _⟩)⟩
theorem rl_lastOut (hF : rl_F wy A B f_known f_liveSet f_ordered f_loopSet f_mergeSet f_written a_actKind a_actNumber a_wayKind a_wayA a_wayB a_dominating a_forward a_parent a_place a_code a_codeArg a_endOf a_elseOf a_ways) (v1 : Int32) : wpX_lastOut (fun r => wpY_lastOut (fun r' => r' = r ∧ i_Rel k (f_known, f_liveSet, f_ordered, f_loopSet, f_mergeSet, f_written, f_codeSize, f_workCount, f_openCount, f_state, f_outCount, f_carriedCount, f_labelCount, a_actKind, a_actNumber, a_wayKind, a_wayA, a_wayB, a_dominating, a_forward, a_parent, a_place, a_code, a_codeArg, a_endOf, a_elseOf, a_workKind, a_workBlock, a_workRest, a_openKind, a_openTarget, a_registers, a_lately, a_visitCount, a_labels) (f_state, f_outCount, f_carriedCount, a_actKind, a_actNumber, a_ways, a_wayA, a_wayB, a_over, a_registers, a_lately, a_visitCount)) (f_state, f_outCount, f_carriedCount, a_actKind, a_actNumber, a_ways, a_wayA, a_wayB, a_over, a_registers, a_lately, a_visitCount) v1) (f_known, f_liveSet, f_ordered, f_loopSet, f_mergeSet, f_written, f_codeSize, f_workCount, f_openCount, f_state, f_outCount, f_carriedCount, f_labelCount, a_actKind, a_actNumber, a_wayKind, a_wayA, a_wayB, a_dominating, a_forward, a_parent, a_place, a_code, a_codeArg, a_endOf, a_elseOf, a_workKind, a_workBlock, a_workRest, a_openKind, a_openTarget, a_registers, a_lately, a_visitCount, a_labels) v1 := by
  unfold wpX_lastOut wpY_lastOut
  dsimp only
  have fin : ∀ r : Int32, r = r ∧ i_Rel k (f_known, f_liveSet, f_ordered, f_loopSet, f_mergeSet, f_written, f_codeSize, f_workCount, f_openCount, f_state, f_outCount, f_carriedCount, f_labelCount, a_actKind, a_actNumber, a_wayKind, a_wayA, a_wayB, a_dominating, a_forward, a_parent, a_place, a_code, a_codeArg, a_endOf, a_elseOf, a_workKind, a_workBlock, a_workRest, a_openKind, a_openTarget, a_registers, a_lately, a_visitCount, a_labels) (f_state, f_outCount, f_carriedCount, a_actKind, a_actNumber, a_ways, a_wayA, a_wayB, a_over, a_registers, a_lately, a_visitCount) := fun r => ⟨rfl, rl_mk hF⟩
  refine br_c (fun h => br_t h (fin 0)) fun h => br_c (fun h7 => br_f h (br_t h7 (fin 0))) (fun h7 => br_c (fun h2 => ?_) (fun h2 => br_f h (br_f h7 (br_t (Int32.not_lt.mp h2) (fin 0)))))
  obtain ⟨r, r7, hr⟩ := nI_of2 (M := 7) (n := 7) (by decide) h (Int32.not_lt.mp h7)
  subst hr
  exact ⟨vp_in_nI (by omega) (by decide), br_f h (br_f h7 (br_f (Int32.not_le.mpr h2) ⟨vp_in_nI (by omega) (by decide), fin _⟩))⟩
theorem rl_visits (hF : rl_F wy A B f_known f_liveSet f_ordered f_loopSet f_mergeSet f_written a_actKind a_actNumber a_wayKind a_wayA a_wayB a_dominating a_forward a_parent a_place a_code a_codeArg a_endOf a_elseOf a_ways) (v1 : Int32) : wpX_visits (fun r => wpY_visits (fun r' => r' = r ∧ i_Rel k (f_known, f_liveSet, f_ordered, f_loopSet, f_mergeSet, f_written, f_codeSize, f_workCount, f_openCount, f_state, f_outCount, f_carriedCount, f_labelCount, a_actKind, a_actNumber, a_wayKind, a_wayA, a_wayB, a_dominating, a_forward, a_parent, a_place, a_code, a_codeArg, a_endOf, a_elseOf, a_workKind, a_workBlock, a_workRest, a_openKind, a_openTarget, a_registers, a_lately, a_visitCount, a_labels) (f_state, f_outCount, f_carriedCount, a_actKind, a_actNumber, a_ways, a_wayA, a_wayB, a_over, a_registers, a_lately, a_visitCount)) (f_state, f_outCount, f_carriedCount, a_actKind, a_actNumber, a_ways, a_wayA, a_wayB, a_over, a_registers, a_lately, a_visitCount) v1) (f_known, f_liveSet, f_ordered, f_loopSet, f_mergeSet, f_written, f_codeSize, f_workCount, f_openCount, f_state, f_outCount, f_carriedCount, f_labelCount, a_actKind, a_actNumber, a_wayKind, a_wayA, a_wayB, a_dominating, a_forward, a_parent, a_place, a_code, a_codeArg, a_endOf, a_elseOf, a_workKind, a_workBlock, a_workRest, a_openKind, a_openTarget, a_registers, a_lately, a_visitCount, a_labels) v1 := by
  unfold wpX_visits wpY_visits
  dsimp only
  have fin : ∀ r : Int32, r = r ∧ i_Rel k (f_known, f_liveSet, f_ordered, f_loopSet, f_mergeSet, f_written, f_codeSize, f_workCount, f_openCount, f_state, f_outCount, f_carriedCount, f_labelCount, a_actKind, a_actNumber, a_wayKind, a_wayA, a_wayB, a_dominating, a_forward, a_parent, a_place, a_code, a_codeArg, a_endOf, a_elseOf, a_workKind, a_workBlock, a_workRest, a_openKind, a_openTarget, a_registers, a_lately, a_visitCount, a_labels) (f_state, f_outCount, f_carriedCount, a_actKind, a_actNumber, a_ways, a_wayA, a_wayB, a_over, a_registers, a_lately, a_visitCount) := fun r => ⟨rfl, rl_mk hF⟩
  rcases pk_ix v1 (n := 8) (by decide) with h | h | ⟨b, b8, h1⟩
  · exact xw_nblk (Or.inl h) (br_t rfl (yw_nblk (Or.inl h) (br_t rfl (fin 0))))
  · exact xw_nblk (Or.inr h) (br_t rfl (yw_nblk (Or.inr h) (br_t rfl (fin 0))))
  · subst h1
    have hin := vp_in_nI (N := 8) b8 (by decide)
    exact xw_blk b8 (br_f (by decide) ⟨hin, yw_blk b8 (br_f (by decide) ⟨hin, fin _⟩)⟩)
end
theorem i_vc_act {k : Nat} {u : SX} {v : SY} (I : i_Rel k u v) (hk : k + 5 ≤ 2560) (v1 : Int32) (v2 : Int32) (v3 : Int32) : wpX_act (fun r u' => wpY_act (fun r' v' => r' = r ∧ i_Rel (k + 5) u' v') v v1 v2 v3) u v1 v2 v3 := by
  refine rl_el (P := fun u v => wpX_act (fun r u' => wpY_act (fun r' v' => r' = r ∧ i_Rel (k + 5) u' v') v v1 v2 v3) u v1 v2 v3) ?_ I
  intros
  exact rl_act (by assumption) v1 v2 v3
theorem i_vc_way {k : Nat} {u : SX} {v : SY} (I : i_Rel k u v) (hk : k + 5 ≤ 2560) (v1 : Int32) (v2 : Int32) (v3 : Int32) (v4 : Int32) : wpX_way (fun r u' => wpY_way (fun r' v' => r' = r ∧ i_Rel (k + 5) u' v') v v1 v2 v3 v4) u v1 v2 v3 v4 := by
  refine rl_el (P := fun u v => wpX_way (fun r u' => wpY_way (fun r' v' => r' = r ∧ i_Rel (k + 5) u' v') v v1 v2 v3 v4) u v1 v2 v3 v4) ?_ I
  intros
  exact rl_way (by assumption) v1 v2 v3 v4
theorem i_vc_live {k : Nat} {u : SX} {v : SY} (I : i_Rel k u v) (hk : k + 5 ≤ 2560) : wpX_live (fun r u' => wpY_live (fun r' => r' = r ∧ i_Rel (k + 5) u' v) v) u := by
  refine rl_el (P := fun u v => wpX_live (fun r u' => wpY_live (fun r' => r' = r ∧ i_Rel (k + 5) u' v) v) u) ?_ I
  intros
  exact rl_live (by assumption)
theorem i_vc_dominators {k : Nat} {u : SX} {v : SY} (I : i_Rel k u v) (hk : k + 5 ≤ 2560) (v1 : Int32) : wpX_dominators (fun r u' => wpY_dominators (fun r' => r' = r ∧ i_Rel (k + 5) u' v) v v1) u v1 := by
  refine rl_el (P := fun u v => wpX_dominators (fun r u' => wpY_dominators (fun r' => r' = r ∧ i_Rel (k + 5) u' v) v v1) u v1) ?_ I
  intros
  exact rl_dom (by assumption) v1
theorem i_vc_regular {k : Nat} {u : SX} {v : SY} (I : i_Rel k u v) (hk : k + 5 ≤ 2560) : wpX_regular (fun r u' => wpY_regular (fun r' v' => r' = r ∧ i_Rel (k + 5) u' v') v) u := by
  refine rl_el (P := fun u v => wpX_regular (fun r u' => wpY_regular (fun r' v' => r' = r ∧ i_Rel (k + 5) u' v') v) u) ?_ I
  intros
  exact rl_regular (by assumption)
theorem i_vc_loops {k : Nat} {u : SX} {v : SY} (I : i_Rel k u v) (hk : k + 5 ≤ 2560) : wpX_loops (fun r u' => wpY_loops (fun r' v' => r' = r ∧ i_Rel (k + 5) u' v') v) u := by
  refine rl_el (P := fun u v => wpX_loops (fun r u' => wpY_loops (fun r' v' => r' = r ∧ i_Rel (k + 5) u' v') v) u) ?_ I
  intros
  exact rl_loops (by assumption)
theorem i_vc_merges {k : Nat} {u : SX} {v : SY} (I : i_Rel k u v) (hk : k + 5 ≤ 2560) : wpX_merges (fun r u' => wpY_merges (fun r' v' => r' = r ∧ i_Rel (k + 5) u' v') v) u := by
  refine rl_el (P := fun u v => wpX_merges (fun r u' => wpY_merges (fun r' v' => r' = r ∧ i_Rel (k + 5) u' v') v) u) ?_ I
  intros
  exact rl_merges (by assumption)
theorem i_vc_run {k : Nat} {u : SX} {v : SY} (I : i_Rel k u v) (hk : k + 5 ≤ 2560) (v1 : Int32) (v2 : Int32) : wpX_run (fun r u' => wpY_run (fun r' v' => r' = r ∧ i_Rel (k + 5) u' v') v v1 v2) u v1 v2 := by
  refine rl_el (P := fun u v => wpX_run (fun r u' => wpY_run (fun r' v' => r' = r ∧ i_Rel (k + 5) u' v') v v1 v2) u v1 v2) ?_ I
  intros
  exact rl_run (by assumption) v1 v2
theorem i_vc_outcome {k : Nat} {u : SX} {v : SY} (I : i_Rel k u v) (hk : k + 5 ≤ 2560) : wpX_outcome (fun r => wpY_outcome (fun r' => r' = r ∧ i_Rel (k + 5) u v) v) u := by
  refine rl_el (P := fun u v => wpX_outcome (fun r => wpY_outcome (fun r' => r' = r ∧ i_Rel (k + 5) u v) v) u) ?_ I
  intros
  exact ⟨rfl, rl_mk (by assumption)⟩
theorem i_vc_register {k : Nat} {u : SX} {v : SY} (I : i_Rel k u v) (hk : k + 5 ≤ 2560) (v1 : Int32) : wpX_register (fun r => wpY_register (fun r' => r' = r ∧ i_Rel (k + 5) u v) v v1) u v1 := by
  refine rl_el (P := fun u v => wpX_register (fun r => wpY_register (fun r' => r' = r ∧ i_Rel (k + 5) u v) v v1) u v1) ?_ I
  intros
  exact rl_register (by assumption) v1
theorem i_vc_outs {k : Nat} {u : SX} {v : SY} (I : i_Rel k u v) (hk : k + 5 ≤ 2560) : wpX_outs (fun r => wpY_outs (fun r' => r' = r ∧ i_Rel (k + 5) u v) v) u := by
  refine rl_el (P := fun u v => wpX_outs (fun r => wpY_outs (fun r' => r' = r ∧ i_Rel (k + 5) u v) v) u) ?_ I
  intros
  exact ⟨rfl, rl_mk (by assumption)⟩
theorem i_vc_lastOut {k : Nat} {u : SX} {v : SY} (I : i_Rel k u v) (hk : k + 5 ≤ 2560) (v1 : Int32) : wpX_lastOut (fun r => wpY_lastOut (fun r' => r' = r ∧ i_Rel (k + 5) u v) v v1) u v1 := by
  refine rl_el (P := fun u v => wpX_lastOut (fun r => wpY_lastOut (fun r' => r' = r ∧ i_Rel (k + 5) u v) v v1) u v1) ?_ I
  intros
  exact rl_lastOut (by assumption) v1
theorem i_vc_carried {k : Nat} {u : SX} {v : SY} (I : i_Rel k u v) (hk : k + 5 ≤ 2560) : wpX_carried (fun r => wpY_carried (fun r' => r' = r ∧ i_Rel (k + 5) u v) v) u := by
  refine rl_el (P := fun u v => wpX_carried (fun r => wpY_carried (fun r' => r' = r ∧ i_Rel (k + 5) u v) v) u) ?_ I
  intros
  exact ⟨rfl, rl_mk (by assumption)⟩
theorem i_vc_visits {k : Nat} {u : SX} {v : SY} (I : i_Rel k u v) (hk : k + 5 ≤ 2560) (v1 : Int32) : wpX_visits (fun r => wpY_visits (fun r' => r' = r ∧ i_Rel (k + 5) u v) v v1) u v1 := by
  refine rl_el (P := fun u v => wpX_visits (fun r => wpY_visits (fun r' => r' = r ∧ i_Rel (k + 5) u v) v v1) u v1) ?_ I
  intros
  exact rl_visits (by assumption) v1
end
