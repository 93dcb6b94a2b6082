section
/-! rows pasted from kit/rows (starting texts): PURE-ROWS and BITS -/
theorem pk_us {f : Nat → Int32} {k : Nat} {x : Int32} : upd f k x k = x := if_pos rfl
theorem pk_un {f : Nat → Int32} {k j : Nat} {x : Int32} (h : j ≠ k) : upd f k x j = f j := if_neg h
theorem pk_sub {a b : Nat} (h : b ≤ a) : nI a - nI b = nI (a - b) := by
  obtain ⟨c, rfl⟩ : ∃ c, a = c + b := ⟨a - b, by omega⟩
  rw [← nI_add, Int32.add_sub_cancel, Nat.add_sub_cancel]
theorem pk_m1 (n : Nat) : nI (n + 1) + (-1) = nI n := by
  rw [← nI_1, Int32.add_assoc, show (1 : Int32) + (-1) = 0 from rfl, Int32.add_zero]
theorem pk_mul (a b : Nat) : nI a * nI b = nI (a * b) := (Int32.ofNat_mul a b).symm
theorem pk_div {a d : Nat} (ha : a < 2 ^ 31) (h0 : 0 < d) (hd : d < 2 ^ 31) : nI a / nI d = nI (a / d) := by
  apply Int32.toInt_inj.mp
  rw [lg_idiv_nonneg (by rw [nI_toInt ha]; omega) (by rw [nI_toInt hd]; omega), nI_toInt ha, nI_toInt hd, nI_toInt (Nat.lt_of_le_of_lt (Nat.div_le_self a d) ha)]
  first | rfl | exact (Int.natCast_ediv _ _).symm
theorem pk_rem {a d : Nat} (ha : a < 2 ^ 31) (h0 : 0 < d) (hd : d < 2 ^ 31) : nI a - nI a / nI d * nI d = nI (a % d) := by
  rw [pk_div ha h0 hd, pk_mul, pk_sub (Nat.div_mul_le_self a d)]
  exact congrArg nI (by have := Nat.div_add_mod' a d; omega)
theorem pk_sub_toInt {a b : Nat} (ha : a < 2 ^ 30) (hb : b < 2 ^ 30) : (nI a - nI b).toInt = (a : Int) - b := by
  rw [Int32.toInt_sub, nI_toInt (by omega), nI_toInt (by omega)]
  exact Int.bmod_eq_of_le (by omega) (by omega)
theorem pk_sneg {a b : Nat} (hb : b < 2 ^ 30) (h : a < b) : nI a - nI b < 0 := by
  rw [Int32.lt_iff_toInt_lt, pk_sub_toInt (by omega) hb, show (0 : Int32).toInt = 0 from by decide]
  omega
theorem pk_ix (x : Int32) {n : Nat} (hn : n < 2 ^ 31) : x < 0 ∨ nI n ≤ x ∨ ∃ j : Nat, j < n ∧ x = nI j := by
  by_cases h : x < 0
  · exact Or.inl h
  · obtain ⟨j, hj, rfl⟩ := nI_of h
    by_cases h2 : j < n
    · exact Or.inr (Or.inr ⟨j, h2, rfl⟩)
    · exact Or.inr (Or.inl (nI_le (by omega) hj))
theorem pk_le {x y : Int32} {A B : Prop} (a b : Nat) (f : a ≤ b → A) (g : b < a → B) (hx : x = nI a := by rfl) (hy : y = nI b := by rfl) (ha : a < 2 ^ 31 := by omega) (hb : b < 2 ^ 31 := by omega) : (x ≤ y → A) ∧ (¬ x ≤ y → B) := by
  subst hx hy
  rw [nI_leI ha hb]
  exact ⟨f, fun z => g (by omega)⟩
theorem pk_lt {x y : Int32} {A B : Prop} (a b : Nat) (f : a < b → A) (g : b ≤ a → B) (hx : x = nI a := by rfl) (hy : y = nI b := by rfl) (ha : a < 2 ^ 31 := by omega) (hb : b < 2 ^ 31 := by omega) : (x < y → A) ∧ (¬ x < y → B) := by
  subst hx hy
  rw [nI_ltI ha hb]
  exact ⟨f, fun z => g (by omega)⟩
theorem pk_eq {x y : Int32} {A B : Prop} (a b : Nat) (f : a = b → A) (g : a ≠ b → B) (hx : x = nI a := by rfl) (hy : y = nI b := by rfl) (ha : a < 2 ^ 31 := by omega) (hb : b < 2 ^ 31 := by omega) : (x = y → A) ∧ (¬ x = y → B) := by
  subst hx hy
  rw [nI_eq ha hb]
  exact ⟨f, g⟩
theorem pk_in {x : Int32} (n N : Nat) (h : n < N) (hx : x = nI n := by rfl) (hN : N < 2 ^ 31 := by omega) : vp_in x N := by
  subst hx
  exact vp_in_nI h hN
theorem pk_cl {x : Int32} (n : Nat) (hx : x = nI n := by rfl) (h : n < 2 ^ 31 := by omega) : x.toNatClampNeg = n := by
  subst hx
  exact nI_clamp h
theorem pk_tn {n : Nat} (h : n < 2 ^ 32) : (nI n).toBitVec.toNat = n := Nat.mod_eq_of_lt h
theorem pk_and (x : Int32) {m : Int32} (k : Nat) (hm : m.toBitVec.toNat = 2 ^ k - 1) : x &&& m = nI (x.toBitVec.toNat % 2 ^ k) := by
  apply Int32.toBitVec_inj.mp
  apply BitVec.eq_of_toNat_eq
  rw [Int32.toBitVec_and, BitVec.toNat_and, hm, Nat.and_two_pow_sub_one_eq_mod]
  show _ = (BitVec.ofNat 32 _).toNat
  rw [BitVec.toNat_ofNat]
  exact (Nat.mod_eq_of_lt (Nat.lt_of_le_of_lt (Nat.mod_le _ _) x.toBitVec.isLt)).symm
theorem pk_andN {n : Nat} (h : n < 2 ^ 32) {m : Int32} (k : Nat) (hm : m.toBitVec.toNat = 2 ^ k - 1) : nI n &&& m = nI (n % 2 ^ k) := by
  rw [pk_and _ k hm, pk_tn h]
theorem pk_andE (x : Int32) {m : Int32} (k : Nat) (hm : m.toBitVec.toNat = 2 ^ k - 1) : ∃ j : Nat, j < 2 ^ k ∧ x &&& m = nI j := ⟨_, Nat.mod_lt _ (Nat.two_pow_pos k), pk_and x k hm⟩
theorem pk_andIn (x : Int32) {m : Int32} (k : Nat) (hm : m.toBitVec.toNat = 2 ^ k - 1) (hk : k ≤ 30) : vp_in (x &&& m) (2 ^ k) := by
  obtain ⟨j, hj, e⟩ := pk_andE x k hm
  rw [e]
  exact vp_in_nI hj (Nat.lt_of_le_of_lt (Nat.pow_le_pow_right (by decide) hk) (by decide))
theorem pk_shl (a s : Int32) (k : Nat) (hs : (s.toBitVec.smod 32).toNat = k) : (a <<< s).toBitVec.toNat = a.toBitVec.toNat * 2 ^ k % 2 ^ 32 := by
  show (a.toBitVec <<< (s.toBitVec.smod 32).toNat).toNat = _
  rw [hs, BitVec.toNat_shiftLeft, Nat.shiftLeft_eq]
theorem pk_shlN {n : Nat} (s : Int32) (k : Nat) (hs : (s.toBitVec.smod 32).toNat = k) (h : n * 2 ^ k < 2 ^ 32) : nI n <<< s = nI (n * 2 ^ k) := by
  apply Int32.toBitVec_inj.mp
  apply BitVec.eq_of_toNat_eq
  have hn : n < 2 ^ 32 := Nat.lt_of_le_of_lt (Nat.le_mul_of_pos_right n (Nat.two_pow_pos k)) h
  rw [pk_shl _ _ k hs, pk_tn hn, pk_tn h, Nat.mod_eq_of_lt h]
theorem pk_shr (a s : Int32) (k : Nat) (hs : (s.toBitVec.smod 32).toNat = k) : (a >>> s).toInt = a.toInt >>> k := by
  show (a.toBitVec.sshiftRight (s.toBitVec.smod 32).toNat).toInt = _
  rw [hs, BitVec.toInt_sshiftRight]
  rfl
theorem pk_shrN {n : Nat} (h : n < 2 ^ 31) (s : Int32) (k : Nat) (hs : (s.toBitVec.smod 32).toNat = k) : nI n >>> s = nI (n / 2 ^ k) := by
  apply Int32.toInt_inj.mp
  have h2 : n / 2 ^ k ≤ n := Nat.div_le_self _ _
  rw [pk_shr _ _ k hs, nI_toInt h, nI_toInt (by omega), Int.shiftRight_eq_div_pow]
  rfl
/-! ===== Int32 by its bits: bt x i ===== -/
def bt (x : Int32) (i : Nat) : Bool := x.toBitVec.getLsbD i
theorem b_ext {x y : Int32} (h : ∀ i, i < 32 → bt x i = bt y i) : x = y := Int32.toBitVec_inj.mp (BitVec.eq_of_getLsbD_eq (fun i hi => h i hi))
theorem b_or (x y : Int32) (i : Nat) : bt (x ||| y) i = (bt x i || bt y i) := by unfold bt; rw [Int32.toBitVec_or, BitVec.getLsbD_or]
theorem b_and (x y : Int32) (i : Nat) : bt (x &&& y) i = (bt x i && bt y i) := by unfold bt; rw [Int32.toBitVec_and, BitVec.getLsbD_and]
theorem b_xor (x y : Int32) (i : Nat) : bt (x ^^^ y) i = (bt x i ^^ bt y i) := by unfold bt; rw [Int32.toBitVec_xor, BitVec.getLsbD_xor]
theorem b_big {x : Int32} {i : Nat} (h : 32 ≤ i) : bt x i = false := BitVec.getLsbD_of_ge _ _ h
theorem b_255 (i : Nat) : bt 255 i = decide (i < 8) := by
  rcases Nat.lt_or_ge i 32 with h | h
  · exact (by decide +kernel : ∀ i, i < 32 → bt 255 i = decide (i < 8)) i h
  · rw [b_big h, decide_eq_false (by omega)]
theorem b_65535 (i : Nat) : bt 65535 i = decide (i < 16) := by
  rcases Nat.lt_or_ge i 32 with h | h
  · exact (by decide +kernel : ∀ i, i < 32 → bt 65535 i = decide (i < 16)) i h
  · rw [b_big h, decide_eq_false (by omega)]
theorem b_m1 : ∀ i, i < 32 → bt (-1) i = true := by decide +kernel
theorem b_0 (i : Nat) : bt 0 i = false := BitVec.getLsbD_zero
theorem s_l : ∀ n, n < 32 → ((nI n &&& 31).toBitVec.smod 32).toNat = n := by decide +kernel
theorem s_u : ∀ n, n < 32 → (((nI n).toUInt32 &&& Int32.toUInt32 31).toBitVec % 32).toNat = n := by decide +kernel
theorem b_shl (n : Nat) (hn : n < 32) (x : Int32) {i : Nat} (hi : i < 32) : bt (x <<< (nI n &&& 31)) i = (decide (n ≤ i) && bt x (i - n)) := by
  unfold bt
  rw [Int32.toBitVec_shiftLeft]
  show (x.toBitVec <<< ((nI n &&& 31).toBitVec.smod 32).toNat).getLsbD i = _
  rw [s_l n hn, BitVec.getLsbD_shiftLeft]
  rcases Nat.lt_or_ge i n with h | h
  · simp [h, Nat.not_le.mpr h]
  · simp [hi, h, Nat.not_lt.mpr h]
theorem b_ushr (n : Nat) (hn : n < 32) (x : Int32) (i : Nat) : bt ((x.toUInt32 >>> ((nI n).toUInt32 &&& Int32.toUInt32 31)).toInt32) i = bt x (n + i) := by
  show (x.toUInt32 >>> ((nI n).toUInt32 &&& Int32.toUInt32 31)).toBitVec.getLsbD i = x.toUInt32.toBitVec.getLsbD (n + i)
  rw [UInt32.toBitVec_shiftRight]
  show (x.toUInt32.toBitVec >>> (((nI n).toUInt32 &&& Int32.toUInt32 31).toBitVec % 32).toNat).getLsbD i = _
  rw [s_u n hn, BitVec.getLsbD_ushiftRight]
theorem b_sshr (n : Nat) (hn : n < 32) (x : Int32) {i : Nat} (hi : i < 32) : bt (x >>> (nI n &&& 31)) i = if n + i < 32 then bt x (n + i) else bt x 31 := by
  unfold bt
  rw [Int32.toBitVec_shiftRight]
  show (x.toBitVec.sshiftRight ((nI n &&& 31).toBitVec.smod 32).toNat).getLsbD i = _
  rw [s_l n hn, BitVec.getLsbD_sshiftRight, BitVec.msb_eq_getLsbD_last]
  simp [hi]
theorem b_shl8 (x : Int32) {i : Nat} (hi : i < 32) : bt (x <<< ((8 : Int32) &&& 31)) i = (decide (8 ≤ i) && bt x (i - 8)) := b_shl 8 (by omega) x hi
theorem b_shl16 (x : Int32) {i : Nat} (hi : i < 32) : bt (x <<< ((16 : Int32) &&& 31)) i = (decide (16 ≤ i) && bt x (i - 16)) := b_shl 16 (by omega) x hi
theorem b_shl24 (x : Int32) {i : Nat} (hi : i < 32) : bt (x <<< ((24 : Int32) &&& 31)) i = (decide (24 ≤ i) && bt x (i - 24)) := b_shl 24 (by omega) x hi
theorem b_sshr8 (x : Int32) {i : Nat} (hi : i < 32) : bt (x >>> ((8 : Int32) &&& 31)) i = if 8 + i < 32 then bt x (8 + i) else bt x 31 := b_sshr 8 (by omega) x hi
/-! ===== nI under and, xor, >>>, one bit, 65535 ===== -/
theorem nx_and (a b : Nat) : nI a &&& nI b = nI (a &&& b) := by
  apply Int32.toBitVec_inj.1
  show BitVec.ofNat 32 a &&& BitVec.ofNat 32 b = BitVec.ofNat 32 (a &&& b)
  apply BitVec.eq_of_getLsbD_eq
  intro i hi
  simp [hi]
theorem nx_xor (a b : Nat) : nI a ^^^ nI b = nI (a ^^^ b) := by
  apply Int32.toBitVec_inj.1
  show BitVec.ofNat 32 a ^^^ BitVec.ofNat 32 b = BitVec.ofNat 32 (a ^^^ b)
  apply BitVec.eq_of_getLsbD_eq
  intro i hi
  simp [hi]
end
section
/-! pure laws over Nat: counting, digits, blocks -/
def pt_cn (P : Nat → Bool) : Nat → Nat
  | 0 => 0
  | n + 1 => pt_cn P n + (if P n = true then 1 else 0)
theorem pt_cn_s (P : Nat → Bool) (n : Nat) : pt_cn P (n + 1) = pt_cn P n + (if P n = true then 1 else 0) := rfl
theorem pt_cn_add (P : Nat → Bool) (a : Nat) : ∀ b, pt_cn P (a + b) = pt_cn P a + pt_cn (fun j => P (a + j)) b := by
  intro b
  induction b with
  | zero => rfl
  | succ b ih =>
    show pt_cn P (a + b) + (if P (a + b) = true then 1 else 0) = pt_cn P a + (pt_cn (fun j => P (a + j)) b + (if P (a + b) = true then 1 else 0))
    rw [ih, Nat.add_assoc]
theorem pt_cn_congr {P Q : Nat → Bool} : ∀ n, (∀ j, j < n → P j = Q j) → pt_cn P n = pt_cn Q n := by
  intro n
  induction n with
  | zero => intro _; rfl
  | succ n ih => intro h; rw [pt_cn_s, pt_cn_s, ih (fun j hj => h j (by omega)), h n (by omega)]
theorem pt_cn_no {P : Nat → Bool} : ∀ n, (∀ j, j < n → P j = false) → pt_cn P n = 0 := by
  intro n
  induction n with
  | zero => intro _; rfl
  | succ n ih => intro h; rw [pt_cn_s, ih (fun j hj => h j (by omega)), h n (by omega)]; rfl
theorem pt_cn_le (P : Nat → Bool) : ∀ n, pt_cn P n ≤ n := by
  intro n
  induction n with
  | zero => exact Nat.le_refl 0
  | succ n ih => rw [pt_cn_s]; split <;> omega
theorem pt_cn_sub {P Q R : Nat → Bool} : ∀ n, (∀ j, j < n → (P j = (Q j || R j)) ∧ (Q j && R j) = false) → pt_cn P n = pt_cn Q n + pt_cn R n := by
  intro n
  induction n with
  | zero => intro _; rfl
  | succ n ih =>
    intro h
    have e := ih (fun j hj => h j (by omega))
    obtain ⟨h1, h2⟩ := h n (by omega)
    rw [pt_cn_s, pt_cn_s, pt_cn_s, e, h1]
    revert h2
    cases Q n <;> cases R n <;> intro h2
    · show _ + _ + 0 = _ + 0 + (_ + 0); omega
    · show _ + _ + 1 = _ + 0 + (_ + 1); omega
    · show _ + _ + 1 = _ + 1 + (_ + 0); omega
    · exact absurd h2 (by decide)
def pt_on (M : Nat) : Nat → Nat
  | 0 => 0
  | b + 1 => pt_on M b + M / 2 ^ b % 2
theorem pt_on_s (M b : Nat) : pt_on M (b + 1) = pt_on M b + M / 2 ^ b % 2 := rfl
theorem pt_on_le (M : Nat) : ∀ b, pt_on M b ≤ b := by
  intro b
  induction b with
  | zero => exact Nat.le_refl 0
  | succ b ih => rw [pt_on_s]; have := Nat.mod_lt (M / 2 ^ b) (y := 2) (by omega); omega
theorem pt_mdm (M : Nat) {b c : Nat} (h : b < c) : M % 2 ^ c / 2 ^ b % 2 = M / 2 ^ b % 2 := by
  rw [← Nat.toNat_testBit, ← Nat.toNat_testBit, Nat.testBit_mod_two_pow, decide_eq_true h, Bool.true_and]
theorem pt_on_lo (M c : Nat) : ∀ b, b ≤ c → pt_on (M % 2 ^ c) b = pt_on M b := by
  intro b
  induction b with
  | zero => intro _; rfl
  | succ b ih => intro h; rw [pt_on_s, pt_on_s, ih (by omega), pt_mdm M (by omega)]
theorem pt_on_hi (M c : Nat) : ∀ d, pt_on (M % 2 ^ c) (c + d) = pt_on M c := by
  intro d
  induction d with
  | zero => exact pt_on_lo M c c (Nat.le_refl c)
  | succ d ih =>
    have h1 : M % 2 ^ c < 2 ^ (c + d) := Nat.lt_of_lt_of_le (Nat.mod_lt _ (Nat.two_pow_pos c)) (Nat.pow_le_pow_right (by decide) (by omega))
    show pt_on (M % 2 ^ c) (c + d) + (M % 2 ^ c) / 2 ^ (c + d) % 2 = _
    rw [ih, Nat.div_eq_of_lt h1]
    exact Nat.add_zero _
theorem pt_spl (b w M B : Nat) : w &&& M = B ↔ (w / 2 ^ b &&& M / 2 ^ b = B / 2 ^ b) ∧ (w % 2 ^ b &&& M % 2 ^ b = B % 2 ^ b) := by
  rw [← Nat.and_div_two_pow, ← Nat.and_mod_two_pow]
  constructor
  · intro h; rw [h]; exact ⟨rfl, rfl⟩
  · intro ⟨h1, h2⟩
    have e := Nat.div_add_mod (w &&& M) (2 ^ b)
    rw [h1, h2, Nat.div_add_mod] at e
    exact e.symm
theorem pt_dv {h l P : Nat} (hl : l < P) : (h * P + l) / P = h := by
  rw [Nat.mul_comm, Nat.mul_add_div (by omega), Nat.div_eq_of_lt hl, Nat.add_zero]
theorem pt_md {h l P : Nat} (hl : l < P) : (h * P + l) % P = l := by
  rw [Nat.mul_comm, Nat.mul_add_mod, Nat.mod_eq_of_lt hl]
/-- division by two more: x / 2^(b+1) is half of x / 2^b -/
theorem pt_hf (x b : Nat) : x / 2 ^ (b + 1) = x / 2 ^ b / 2 := by
  rw [Nat.pow_succ, Nat.div_div_eq_div_mul]
theorem pt_2 (b : Nat) : (2 : Nat) ^ (b + 1) = 2 ^ b + 2 ^ b := by
  rw [Nat.pow_succ]; omega
/-- one more bit of a covered word -/
theorem pt_spl1 (b w M B : Nat) : w / 2 ^ b &&& M / 2 ^ b = B / 2 ^ b ↔ (w / 2 ^ (b + 1) &&& M / 2 ^ (b + 1) = B / 2 ^ (b + 1)) ∧ (w / 2 ^ b % 2 &&& M / 2 ^ b % 2 = B / 2 ^ b % 2) := by
  rw [pt_hf, pt_hf, pt_hf]
  exact pt_spl 1 _ _ _
theorem pt_b01 (x : Nat) : x % 2 = 0 ∨ x % 2 = 1 := by omega
/-- bits lies inside the mask -/
theorem pt_bm {M B : Nat} (hB : B &&& M = B) (b : Nat) : (B / 2 ^ b % 2) &&& (M / 2 ^ b % 2) = B / 2 ^ b % 2 :=
  ((pt_spl1 b B M B).mp ((pt_spl b B M B).mp hB).1).2
theorem pt_bm0 {M B : Nat} (hB : B &&& M = B) {b : Nat} (h : M / 2 ^ b % 2 = 0) : B / 2 ^ b % 2 = 0 := by
  have e := pt_bm hB b
  rw [h, Nat.and_zero] at e
  exact e.symm
/-- a covered word's bit: free, or as wanted -/
theorem pt_cvb {M B w : Nat} (h : w &&& M = B) (b : Nat) : M / 2 ^ b % 2 = 0 ∨ B / 2 ^ b % 2 = w / 2 ^ b % 2 := by
  have e := ((pt_spl1 b w M B).mp ((pt_spl b w M B).mp h).1).2
  rcases pt_b01 (M / 2 ^ b) with m | m
  · exact Or.inl m
  · right
    rw [m, Nat.and_one_is_mod] at e
    omega
theorem pt_D {M B : Nat} (hB : B &&& M = B) : ∀ b, pt_cn (fun l => decide (l &&& M % 2 ^ b = B % 2 ^ b)) (2 ^ b) = 2 ^ (b - pt_on M b) := by
  intro b
  induction b with
  | zero => simp [pt_cn, pt_on, Nat.mod_one]
  | succ b ih =>
    have key : ∀ h l, l < 2 ^ b → ((h * 2 ^ b + l) &&& M % 2 ^ (b + 1) = B % 2 ^ (b + 1) ↔ (h &&& (M / 2 ^ b % 2) = B / 2 ^ b % 2) ∧ (l &&& M % 2 ^ b = B % 2 ^ b)) := by
      intro h l hl
      have e3 : ∀ X : Nat, X % 2 ^ (b + 1) / 2 ^ b = X / 2 ^ b % 2 := fun X => by rw [Nat.pow_succ, Nat.mod_mul_right_div_self]
      have e4 : ∀ X : Nat, X % 2 ^ (b + 1) % 2 ^ b = X % 2 ^ b := fun X => Nat.mod_mod_of_dvd X (Nat.pow_dvd_pow 2 (Nat.le_succ b))
      rw [pt_spl b, pt_dv hl, pt_md hl, e3, e3, e4, e4]
    have cc : ∀ h, pt_cn (fun l => decide ((h * 2 ^ b + l) &&& M % 2 ^ (b + 1) = B % 2 ^ (b + 1))) (2 ^ b) = if h &&& (M / 2 ^ b % 2) = B / 2 ^ b % 2 then 2 ^ (b - pt_on M b) else 0 := by
      intro h
      split
      · rename_i c
        rw [← ih]
        apply pt_cn_congr
        intro l hl
        exact decide_eq_decide.mpr ((key h l hl).trans ⟨fun z => z.2, fun z => ⟨c, z⟩⟩)
      · rename_i c
        apply pt_cn_no
        intro l hl
        exact decide_eq_false (fun z => c ((key h l hl).mp z).1)
    have c0 := cc 0
    have c1 := cc 1
    simp only [Nat.zero_mul, Nat.zero_add, Nat.one_mul] at c0 c1
    refine (congrArg (pt_cn _) (pt_2 b)).trans ?_
    rw [pt_cn_add]
    show _ + pt_cn (fun j => decide ((2 ^ b + j) &&& M % 2 ^ (b + 1) = B % 2 ^ (b + 1))) (2 ^ b) = _
    rw [c0, c1, pt_on_s]
    have hle := pt_on_le M b
    have hz := pt_bm hB b
    rcases pt_b01 (M / 2 ^ b) with m | m
    · rw [m, Nat.and_zero] at hz
      rw [m, ← hz, show b + 1 - (pt_on M b + 0) = (b - pt_on M b) + 1 by omega, pt_2]
      rfl
    · rw [m, show b + 1 - (pt_on M b + 1) = b - pt_on M b by omega]
      rcases pt_b01 (B / 2 ^ b) with β | β
      · rw [β]; exact Nat.add_zero _
      · rw [β]; exact Nat.zero_add _
/-- the words of a block that a pattern covers -/
theorem pt_blk {M B : Nat} (hB : B &&& M = B) (h b : Nat) : pt_cn (fun l => decide ((h * 2 ^ b + l) &&& M = B)) (2 ^ b) = if h &&& M / 2 ^ b = B / 2 ^ b then 2 ^ (b - pt_on M b) else 0 := by
  have key : ∀ l, l < 2 ^ b → ((h * 2 ^ b + l) &&& M = B ↔ (h &&& M / 2 ^ b = B / 2 ^ b) ∧ (l &&& M % 2 ^ b = B % 2 ^ b)) := by
    intro l hl
    rw [pt_spl b, pt_dv hl, pt_md hl]
  split
  · rename_i c
    rw [← pt_D hB b]
    apply pt_cn_congr
    intro l hl
    exact decide_eq_decide.mpr ((key l hl).trans ⟨fun z => z.2, fun z => ⟨c, z⟩⟩)
  · rename_i c
    apply pt_cn_no
    intro l hl
    exact decide_eq_false (fun z => c ((key l hl).mp z).1)
/-- how many words below x the pattern covers -/
def pt_C (M B x : Nat) : Nat := pt_cn (fun w => decide (w &&& M = B)) x
theorem pt_C_add (M B a b : Nat) : pt_C M B (a + b) = pt_C M B a + pt_cn (fun l => decide ((a + l) &&& M = B)) b := pt_cn_add _ a b
theorem pt_C_all {M B : Nat} (hM : M < 4096) (hB : B &&& M = B) : pt_C M B 4096 = 2 ^ (12 - pt_on M 12) := by
  have e := pt_blk hB 0 12
  have hB2 : B < 4096 := Nat.lt_of_le_of_lt (hB ▸ Nat.and_le_right) hM
  rw [if_pos (by rw [Nat.zero_and, Nat.div_eq_of_lt hB2])] at e
  rw [← e]
  show pt_cn _ 4096 = pt_cn _ (2 ^ 12)
  apply pt_cn_congr
  intro l _
  show _ = decide ((0 * 2 ^ 12 + l) &&& M = B)
  rw [Nat.zero_mul, Nat.zero_add]
/-- a step of the digit count: bit b of x is 1, and x agrees above -/
theorem pt_C_one {M B x b : Nat} (hB : B &&& M = B) (ha : x / 2 ^ (b + 1) &&& M / 2 ^ (b + 1) = B / 2 ^ (b + 1)) (h1 : x / 2 ^ b % 2 = 1) :
    pt_C M B (x / 2 ^ b * 2 ^ b) = pt_C M B (x / 2 ^ (b + 1) * 2 ^ (b + 1)) + (if B / 2 ^ b % 2 = 0 then 2 ^ (b - pt_on M b) else 0) := by
  have e1 : x / 2 ^ b = x / 2 ^ (b + 1) * 2 + 1 := by rw [pt_hf]; omega
  have e2 : x / 2 ^ b * 2 ^ b = x / 2 ^ (b + 1) * 2 * 2 ^ b + 2 ^ b := by rw [e1, Nat.add_mul, Nat.one_mul]
  have e3 : x / 2 ^ (b + 1) * 2 ^ (b + 1) = x / 2 ^ (b + 1) * 2 * 2 ^ b := by rw [Nat.pow_succ, Nat.mul_comm (2 ^ b) 2, Nat.mul_assoc]
  rw [e2, e3, pt_C_add, pt_blk hB]
  generalize hq : x / 2 ^ (b + 1) = q at ha
  have e4 : (q * 2 &&& M / 2 ^ b = B / 2 ^ b) ↔ (B / 2 ^ b % 2 = 0) := by
    have s := pt_spl 1 (q * 2) (M / 2 ^ b) (B / 2 ^ b)
    rw [show (2 : Nat) ^ 1 = 2 from rfl, show q * 2 / 2 = q by omega, show q * 2 % 2 = 0 by omega, ← pt_hf, ← pt_hf, Nat.zero_and] at s
    rw [s]
    exact ⟨fun z => z.2.symm, fun z => ⟨ha, z.symm⟩⟩
  by_cases c : B / 2 ^ b % 2 = 0
  · rw [if_pos c, if_pos (e4.mpr c)]
  · rw [if_neg c, if_neg (fun z => c (e4.mp z))]
theorem pt_C_nil {M B x b : Nat} (h0 : x / 2 ^ b % 2 = 0) :
    pt_C M B (x / 2 ^ b * 2 ^ b) = pt_C M B (x / 2 ^ (b + 1) * 2 ^ (b + 1)) := by
  have e1 : x / 2 ^ b = x / 2 ^ (b + 1) * 2 := by rw [pt_hf]; omega
  have e3 : x / 2 ^ (b + 1) * 2 ^ (b + 1) = x / 2 ^ (b + 1) * 2 * 2 ^ b := by rw [Nat.pow_succ, Nat.mul_comm (2 ^ b) 2, Nat.mul_assoc]
  rw [e3, ← e1]
/-- where x disagrees at or above b, no word from there up to x is covered -/
theorem pt_C_dis {M B x b : Nat} (h : ¬ (x / 2 ^ b &&& M / 2 ^ b = B / 2 ^ b)) : pt_C M B x = pt_C M B (x / 2 ^ b * 2 ^ b) := by
  have e : x = x / 2 ^ b * 2 ^ b + x % 2 ^ b := by rw [Nat.mul_comm]; exact (Nat.div_add_mod x (2 ^ b)).symm
  have hl : x % 2 ^ b < 2 ^ b := Nat.mod_lt _ (Nat.two_pow_pos b)
  refine (congrArg (pt_C M B) e).trans ?_
  rw [pt_C_add]
  rw [pt_cn_no, Nat.add_zero]
  intro l hl2
  refine decide_eq_false (fun z => h ?_)
  have s := ((pt_spl b _ _ _).mp z).1
  rwa [pt_dv (by omega)] at s
end
section
/-! first hit of a scan from a up to (not with) t: -8 if there is none -/
def pt_fst (P : Nat → Prop) (a t : Nat) (r : Int32) : Prop :=
  (r = -8 ∧ ∀ w, a ≤ w → w < t → ¬ P w) ∨ (∃ w, r = nI w ∧ a ≤ w ∧ w < t ∧ P w ∧ ∀ v, a ≤ v → v < w → ¬ P v)
theorem pt_fst_hit {P : Nat → Prop} {a t : Nat} {r : Int32} (h : pt_fst P a t r) (ha : a < t) (hp : P a) : r = nI a := by
  rcases h with ⟨_, h⟩ | ⟨w, hr, h1, _, _, h2⟩
  · exact absurd hp (h a (Nat.le_refl a) ha)
  · by_cases e : a = w
    · rw [hr, e]
    · exact absurd hp (h2 a (Nat.le_refl a) (by omega))
theorem pt_fst_skip {P : Nat → Prop} {a b t : Nat} {r : Int32} (h : pt_fst P a t r) (hab : a ≤ b) (hn : ∀ v, a ≤ v → v < b → ¬ P v) : pt_fst P b t r := by
  rcases h with ⟨hr, h⟩ | ⟨w, hr, h1, h3, h4, h2⟩
  · exact Or.inl ⟨hr, fun w hw ht => h w (by omega) ht⟩
  · refine Or.inr ⟨w, hr, ?_, h3, h4, fun v hv hw => h2 v (by omega) hw⟩
    by_cases e : w < b
    · exact absurd h4 (hn w h1 e)
    · omega
theorem pt_fst_next {P : Nat → Prop} {a t : Nat} {r : Int32} (h : pt_fst P a t r) (hp : ¬ P a) : pt_fst P (a + 1) t r := by
  refine pt_fst_skip h (by omega) (fun v h1 h2 => ?_)
  have e : v = a := by omega
  rw [e]; exact hp
theorem pt_fst_end {P : Nat → Prop} {a t : Nat} {r : Int32} (h : pt_fst P a t r) (ha : t ≤ a) : r = -8 := by
  rcases h with ⟨hr, _⟩ | ⟨w, _, h1, h3, _⟩
  · exact hr
  · omega
theorem pt_fst_ex (P : Nat → Prop) (t : Nat) : ∀ d a, a + d = t → ∃ r, pt_fst P a t r := by
  intro d
  induction d with
  | zero => intro a h; exact ⟨-8, Or.inl ⟨rfl, fun w h1 h2 => by omega⟩⟩
  | succ d ih =>
    intro a h
    by_cases hp : P a
    · exact ⟨nI a, Or.inr ⟨a, rfl, Nat.le_refl a, by omega, hp, fun v h1 h2 => by omega⟩⟩
    · obtain ⟨r, hr⟩ := ih (a + 1) (by omega)
      refine ⟨r, ?_⟩
      rcases hr with ⟨e, h1⟩ | ⟨w, e, h1, h3, h4, h2⟩
      · refine Or.inl ⟨e, fun w hw ht => ?_⟩
        by_cases c : w = a
        · rw [c]; exact hp
        · exact h1 w (by omega) ht
      · refine Or.inr ⟨w, e, by omega, h3, h4, fun v hv hw => ?_⟩
        by_cases c : v = a
        · rw [c]; exact hp
        · exact h2 v (by omega) hw
/-! two patterns overlap -/
theorem pt_ov1 {m b M B w : Nat} (h1 : w &&& m = b) (h2 : w &&& M = B) : ((b ^^^ B) &&& m) &&& M = 0 := by
  apply Nat.eq_of_testBit_eq
  intro j
  rw [← h1, ← h2, Nat.testBit_and, Nat.testBit_and, Nat.testBit_xor, Nat.testBit_and, Nat.testBit_and, Nat.zero_testBit]
  cases w.testBit j <;> cases m.testBit j <;> cases M.testBit j <;> rfl
theorem pt_ov2 {m b M B : Nat} (hb : b &&& m = b) (hB : B &&& M = B) (h : ((b ^^^ B) &&& m) &&& M = 0) : (b ||| B) &&& m = b ∧ (b ||| B) &&& M = B := by
  have f : ∀ j, (b.testBit j && m.testBit j) = b.testBit j ∧ (B.testBit j && M.testBit j) = B.testBit j ∧ (((b.testBit j ^^ B.testBit j) && m.testBit j) && M.testBit j) = false := by
    intro j
    refine ⟨?_, ?_, ?_⟩
    · rw [← Nat.testBit_and, hb]
    · rw [← Nat.testBit_and, hB]
    · rw [← Nat.testBit_xor, ← Nat.testBit_and, ← Nat.testBit_and, h, Nat.zero_testBit]
  constructor
  · apply Nat.eq_of_testBit_eq
    intro j
    have := f j
    revert this
    rw [Nat.testBit_and, Nat.testBit_or]
    cases b.testBit j <;> cases B.testBit j <;> cases m.testBit j <;> cases M.testBit j <;> decide
  · apply Nat.eq_of_testBit_eq
    intro j
    have := f j
    revert this
    rw [Nat.testBit_and, Nat.testBit_or]
    cases b.testBit j <;> cases B.testBit j <;> cases m.testBit j <;> cases M.testBit j <;> decide
/-! holes: the words that none of the first p patterns covers -/
def pt_un (M B : Nat → Nat) (w : Nat) : Nat → Bool
  | 0 => true
  | p + 1 => pt_un M B w p && !(decide (w &&& M p = B p))
theorem pt_un_s (M B : Nat → Nat) (w p : Nat) : pt_un M B w (p + 1) = (pt_un M B w p && !(decide (w &&& M p = B p))) := rfl
theorem pt_un_iff (M B : Nat → Nat) (w : Nat) : ∀ p, pt_un M B w p = true ↔ ∀ i, i < p → ¬ (w &&& M i = B i) := by
  intro p
  induction p with
  | zero => exact ⟨fun _ i hi => absurd hi (by omega), fun _ => rfl⟩
  | succ p ih =>
    rw [pt_un_s, Bool.and_eq_true, ih, Bool.not_eq_true', decide_eq_false_iff_not]
    constructor
    · intro ⟨h1, h2⟩ i hi
      by_cases e : i = p
      · rw [e]; exact h2
      · exact h1 i (by omega)
    · intro h
      exact ⟨fun i hi => h i (by omega), h p (by omega)⟩
theorem pt_ho_s {M B : Nat → Nat} {p : Nat} (hd : ∀ i, i < p → ∀ w, w &&& M p = B p → ¬ (w &&& M i = B i)) (n : Nat) :
    pt_cn (fun w => pt_un M B w p) n = pt_cn (fun w => pt_un M B w (p + 1)) n + pt_C (M p) (B p) n := by
  apply pt_cn_sub
  intro w _
  by_cases c : w &&& M p = B p
  · have u : pt_un M B w p = true := (pt_un_iff M B w p).mpr (fun i hi => hd i hi w c)
    rw [pt_un_s, u, decide_eq_true c]
    exact ⟨rfl, rfl⟩
  · rw [pt_un_s, decide_eq_false c]
    cases pt_un M B w p
    · exact ⟨rfl, rfl⟩
    · exact ⟨rfl, rfl⟩
theorem pt_cn_all {P : Nat → Bool} : ∀ n, (∀ j, j < n → P j = true) → pt_cn P n = n := by
  intro n
  induction n with
  | zero => intro _; rfl
  | succ n ih => intro h; rw [pt_cn_s, ih (fun j hj => h j (by omega)), h n (by omega)]; rfl
/-! the next word of a pattern -/
theorem pt_hi : ∀ k f w : Nat, f < w → w < 2 ^ k → ∃ b, b < k ∧ f / 2 ^ (b + 1) = w / 2 ^ (b + 1) ∧ f / 2 ^ b % 2 = 0 ∧ w / 2 ^ b % 2 = 1 := by
  intro k
  induction k with
  | zero => intro f w h1 h2; rw [Nat.pow_zero] at h2; omega
  | succ k ih =>
    intro f w h1 h2
    by_cases e : f / 2 = w / 2
    · exact ⟨0, by omega, by rw [Nat.zero_add, Nat.pow_one]; exact e, by rw [Nat.pow_zero, Nat.div_one]; omega, by rw [Nat.pow_zero, Nat.div_one]; omega⟩
    · rw [pt_2] at h2
      obtain ⟨b, hb, h3, h4, h5⟩ := ih (f / 2) (w / 2) (by omega) (by omega)
      have g : ∀ x c : Nat, x / 2 / 2 ^ c = x / 2 ^ (c + 1) := by
        intro x c
        rw [Nat.div_div_eq_div_mul, Nat.pow_succ, Nat.mul_comm]
      rw [g, g] at h3
      rw [g] at h4 h5
      exact ⟨b + 1, by omega, h3, h4, h5⟩
def pt_nwc (M B f b : Nat) : Prop := f / 2 ^ b % 2 = 0 ∧ (M / 2 ^ b % 2 = 0 ∨ B / 2 ^ b % 2 = 1) ∧ f / 2 ^ (b + 1) &&& M / 2 ^ (b + 1) = B / 2 ^ (b + 1)
def pt_nwr (B f b : Nat) : Nat := (f / 2 ^ (b + 1) * 2 + 1) * 2 ^ b + B % 2 ^ b
theorem pt_nw_core {M B f w : Nat} (hw : w &&& M = B) (hf : f < w) (h2 : w < 4096) : ∃ b, b < 12 ∧ f / 2 ^ (b + 1) = w / 2 ^ (b + 1) ∧ w / 2 ^ b % 2 = 1 ∧ f / 2 ^ b % 2 = 0 ∧ pt_nwc M B f b := by
  obtain ⟨b, hb, h3, h4, h5⟩ := pt_hi 12 f w hf h2
  refine ⟨b, hb, h3, h5, h4, h4, ?_, ?_⟩
  · have c := pt_cvb hw b
    rw [h5] at c
    exact c
  · rw [h3]
    exact ((pt_spl (b + 1) w M B).mp hw).1
theorem pt_nwr_d (B f b : Nat) : pt_nwr B f b / 2 ^ b = f / 2 ^ (b + 1) * 2 + 1 := pt_dv (Nat.mod_lt _ (Nat.two_pow_pos b))
theorem pt_nwr_m (B f b : Nat) : pt_nwr B f b % 2 ^ b = B % 2 ^ b := pt_md (Nat.mod_lt _ (Nat.two_pow_pos b))
theorem pt_nwr_u (B f b : Nat) : pt_nwr B f b / 2 ^ (b + 1) = f / 2 ^ (b + 1) := by
  rw [pt_hf (pt_nwr B f b), pt_nwr_d]
  omega
theorem pt_up2 {x y b c : Nat} (h : x / 2 ^ b = y / 2 ^ b) (hc : b ≤ c) : x / 2 ^ c = y / 2 ^ c := by
  obtain ⟨d, rfl⟩ : ∃ d, c = b + d := ⟨c - b, by omega⟩
  rw [Nat.pow_add, ← Nat.div_div_eq_div_mul, ← Nat.div_div_eq_div_mul, h]
theorem pt_nw_cov {M B f b : Nat} (hB : B &&& M = B) (h : pt_nwc M B f b) : pt_nwr B f b &&& M = B := by
  obtain ⟨_, h2, h3⟩ := h
  rw [pt_spl b, pt_spl1, pt_nwr_u, pt_nwr_d, pt_nwr_m]
  refine ⟨⟨h3, ?_⟩, ((pt_spl b B M B).mp hB).2⟩
  rw [show (f / 2 ^ (b + 1) * 2 + 1) % 2 = 1 by omega]
  rcases pt_b01 (M / 2 ^ b) with m | m
  · rw [pt_bm0 hB m, m]; rfl
  · rcases h2 with h2 | h2
    · omega
    · rw [m, h2]; rfl
theorem pt_nw_hit {M B f b : Nat} (hb : b < 12) (hf : f < 4096) (hB : B &&& M = B) (hn : ¬ (f &&& M = B)) (h : pt_nwc M B f b) (hl : ∀ c, c < b → ¬ pt_nwc M B f c) : pt_fst (fun w => w &&& M = B) f 4096 (nI (pt_nwr B f b)) := by
  have g1 : f < pt_nwr B f b := by
    apply Nat.lt_of_div_lt_div (c := 2 ^ b)
    rw [pt_nwr_d]
    have := h.1
    rw [pt_hf]
    omega
  have g2 : pt_nwr B f b < 4096 := by
    have e := pt_up2 (pt_nwr_u B f b) (c := 12) (by omega)
    rw [show (2 : Nat) ^ 12 = 4096 from rfl] at e
    omega
  refine Or.inr ⟨pt_nwr B f b, rfl, by omega, g2, pt_nw_cov hB h, fun w hw hlt hc => ?_⟩
  by_cases e : w = f
  · rw [e] at hc; exact hn hc
  · obtain ⟨d, hd, h3, h5, h4, h6⟩ := pt_nw_core (f := f) hc (by omega) (by omega)
    have hbd : b ≤ d := by
      by_cases c : b ≤ d
      · exact c
      · exact absurd h6 (hl d (by omega))
    by_cases c : b = d
    · subst c
      have q1 : w / 2 ^ b = pt_nwr B f b / 2 ^ b := by
        rw [pt_nwr_d, h3, pt_hf w]
        omega
      have q2 : B % 2 ^ b ≤ w % 2 ^ b := by
        have := ((pt_spl b w M B).mp hc).2
        rw [← this]
        exact Nat.and_le_left
      have q3 := Nat.div_add_mod w (2 ^ b)
      have q4 := Nat.div_add_mod (pt_nwr B f b) (2 ^ b)
      rw [pt_nwr_m, ← q1] at q4
      omega
    · have q1 : pt_nwr B f b / 2 ^ d = f / 2 ^ d := pt_up2 (pt_nwr_u B f b) (by omega)
      have q2 : pt_nwr B f b / 2 ^ d < w / 2 ^ d := by
        rw [q1]
        rw [pt_hf, pt_hf] at h3
        omega
      have := Nat.lt_of_div_lt_div q2
      omega
theorem pt_nw_none {M B f : Nat} (hn : ¬ (f &&& M = B)) (hl : ∀ c, c < 12 → ¬ pt_nwc M B f c) : pt_fst (fun w => w &&& M = B) f 4096 (-8) := by
  refine Or.inl ⟨rfl, fun w hw ht hc => ?_⟩
  by_cases e : w = f
  · rw [e] at hc; exact hn hc
  · obtain ⟨d, hd, _, _, _, h6⟩ := pt_nw_core (f := f) hc (by omega) ht
    exact hl d hd h6
/-! the next hole: below the lowest bit of the mask nothing matters -/
theorem pt_nh {M B w t v : Nat} (hc : w &&& M = B) (ht : M % 2 ^ t = 0) (h1 : w ≤ v) (h2 : v < (w / 2 ^ t + 1) * 2 ^ t) : v &&& M = B := by
  have s := (pt_spl t w M B).mp hc
  have e : v / 2 ^ t = w / 2 ^ t := by
    have g1 : v / 2 ^ t < w / 2 ^ t + 1 := Nat.div_lt_of_lt_mul (by rw [Nat.mul_comm]; exact h2)
    have g2 : w / 2 ^ t ≤ v / 2 ^ t := Nat.div_le_div_right h1
    omega
  rw [pt_spl t, e]
  refine ⟨s.1, ?_⟩
  have z := s.2
  rw [ht, Nat.and_zero] at z ⊢
  exact z
/-! the run of a field meets the mask -/
theorem pt_rn1 {M l s : Nat} (h : ∀ b, l ≤ b → b < l + s → M / 2 ^ b % 2 = 0) : ((2 ^ s - 1) * 2 ^ l) &&& M = 0 := by
  apply Nat.eq_of_testBit_eq
  intro j
  rw [Nat.testBit_and, Nat.testBit_mul_two_pow, Nat.testBit_two_pow_sub_one, Nat.zero_testBit]
  by_cases c : l ≤ j ∧ j < l + s
  · have := h j c.1 c.2
    rw [Nat.testBit_eq_decide_div_mod_eq (x := M), decide_eq_false (p := M / 2 ^ j % 2 = 1) (by omega), Bool.and_false]
  · by_cases d : l ≤ j
    · rw [decide_eq_false (p := j - l < s) (by omega), Bool.and_false, Bool.false_and]
    · rw [decide_eq_false (p := l ≤ j) d, Bool.false_and, Bool.false_and]
theorem pt_rn2 {M l s b : Nat} (h1 : l ≤ b) (h2 : b < l + s) (h : M / 2 ^ b % 2 ≠ 0) : ((2 ^ s - 1) * 2 ^ l) &&& M ≠ 0 := by
  intro e
  have g : (((2 ^ s - 1) * 2 ^ l) &&& M).testBit b = false := by rw [e, Nat.zero_testBit]
  rw [Nat.testBit_and, Nat.testBit_mul_two_pow, Nat.testBit_two_pow_sub_one, decide_eq_true (p := l ≤ b) h1, decide_eq_true (p := b - l < s) (by omega), Bool.true_and, Bool.true_and, Nat.testBit_eq_decide_div_mod_eq, decide_eq_false_iff_not] at g
  omega
/-! the bits above b of a word, and the parts put together -/
theorem pt_abv {x b : Nat} (hx : x < 4096) (hb : b < 12) : x &&& (4096 - 2 ^ (b + 1)) = x / 2 ^ (b + 1) * 2 ^ (b + 1) := by
  have e : 4096 - 2 ^ (b + 1) = (2 ^ (11 - b) - 1) * 2 ^ (b + 1) := by
    rw [Nat.sub_mul, ← Nat.pow_add, Nat.one_mul, show 11 - b + (b + 1) = 12 by omega]
  rw [e]
  apply Nat.eq_of_testBit_eq
  intro j
  rw [Nat.testBit_and, Nat.testBit_mul_two_pow, Nat.testBit_mul_two_pow, Nat.testBit_two_pow_sub_one, Nat.testBit_div_two_pow]
  by_cases c : b + 1 ≤ j
  · rw [decide_eq_true (p := b + 1 ≤ j) c, show j - (b + 1) + (b + 1) = j by omega, Bool.true_and, Bool.true_and]
    by_cases d : j < 12
    · rw [decide_eq_true (by omega), Bool.and_true]
    · have z : x < 2 ^ j := Nat.lt_of_lt_of_le (m := 2 ^ 12) hx (Nat.pow_le_pow_right (by decide) (by omega))
      rw [Nat.testBit_lt_two_pow z, Bool.false_and]
  · rw [decide_eq_false (p := b + 1 ≤ j) c, Bool.false_and, Bool.false_and, Bool.and_false]
theorem pt_cmb (h l b : Nat) (hl : l < 2 ^ b) : ((h * 2 ^ (b + 1)) ||| 2 ^ b) ||| l = (h * 2 + 1) * 2 ^ b + l := by
  have e1 : (h * 2 ^ (b + 1)) ||| 2 ^ b = h * 2 ^ (b + 1) + 2 ^ b := by
    rw [Nat.mul_comm h, ← Nat.two_pow_add_eq_or_of_lt (Nat.pow_lt_pow_right (by decide) (by omega))]
  have e2 : h * 2 ^ (b + 1) + 2 ^ b = 2 ^ b * (h * 2 + 1) := by
    rw [Nat.mul_add, Nat.mul_one, Nat.pow_succ, Nat.mul_comm h, Nat.mul_assoc, Nat.mul_comm 2 h]
  rw [e1, e2, ← Nat.two_pow_add_eq_or_of_lt hl, Nat.mul_comm (2 ^ b)]
theorem pt_fil (w t : Nat) : (w ||| (2 ^ t - 1)) + 1 = (w / 2 ^ t + 1) * 2 ^ t := by
  have hp := Nat.two_pow_pos t
  have e : w ||| (2 ^ t - 1) = 2 ^ t * (w / 2 ^ t) + (2 ^ t - 1) := by
    apply Nat.eq_of_testBit_eq
    intro j
    rw [Nat.testBit_or, Nat.testBit_two_pow_mul_add _ (by omega), Nat.testBit_two_pow_sub_one]
    by_cases c : j < t
    · rw [if_pos c, decide_eq_true c, Bool.or_true]
    · rw [if_neg c, decide_eq_false c, Bool.or_false, Nat.testBit_div_two_pow, show j - t + t = j by omega]
  rw [e, Nat.add_mul, Nat.one_mul, Nat.mul_comm (2 ^ t)]
  omega
/-- the place of the lowest 1 -/
def pt_tz : Nat → Nat → Nat
  | 0, _ => 0
  | k + 1, M => if M % 2 = 1 then 0 else pt_tz k (M / 2) + 1
theorem pt_low : ∀ M, M < 4096 → M = 0 ∨ (nI M &&& (-nI M) = nI (2 ^ pt_tz 12 M) ∧ pt_tz 12 M < 12 ∧ M % 2 ^ pt_tz 12 M = 0) := by decide +kernel
end
section
/-! ints and naturals: bits, shifts, runs -/
theorem pt_or (a b : Nat) : nI a ||| nI b = nI (a ||| b) := by
  apply Int32.toBitVec_inj.1
  show BitVec.ofNat 32 a ||| BitVec.ofNat 32 b = BitVec.ofNat 32 (a ||| b)
  apply BitVec.eq_of_getLsbD_eq
  intro i hi
  simp [hi]
theorem pt_bit {x b : Nat} (hx : x < 2 ^ 31) (hb : b < 32) : (nI x >>> (nI b &&& 31)) &&& 1 = nI (x / 2 ^ b % 2) := by
  have h : x / 2 ^ b ≤ x := Nat.div_le_self _ _
  rw [pk_shrN hx (nI b &&& 31) b (s_l b hb), pk_andN (by omega) 1 (by decide)]
theorem pt_shl {x b : Nat} (hb : b < 32) (h : x * 2 ^ b < 2 ^ 32) : nI x <<< (nI b &&& 31) = nI (x * 2 ^ b) := pk_shlN _ b (s_l b hb) h
theorem pt_pw {b c : Nat} (h : b ≤ c) : (2 : Nat) ^ b ≤ 2 ^ c := Nat.pow_le_pow_right (by decide) h
theorem pt_sh1 {b : Nat} (hb : b < 31) : (1 : Int32) <<< (nI b &&& 31) = nI (2 ^ b) := by
  have h : (2 : Nat) ^ b ≤ 2 ^ 30 := pt_pw (by omega)
  have e := pt_shl (x := 1) (b := b) (by omega) (by rw [Nat.one_mul]; omega)
  rw [Nat.one_mul] at e
  exact e
theorem pt_n1 {x : Nat} (h : 1 ≤ x) : nI x - 1 = nI (x - 1) := pk_sub (b := 1) h
theorem pt_msk {s : Nat} (hs : s < 31) : ((1 : Int32) <<< (nI s &&& 31)) - 1 = nI (2 ^ s - 1) := by
  rw [pt_sh1 hs, pt_n1 (Nat.two_pow_pos s)]
theorem pt_rnB {l s : Nat} (h : l + s ≤ 12) : (2 ^ s - 1) * 2 ^ l < 4096 := by
  have e : (2 ^ s - 1) * 2 ^ l < 2 ^ s * 2 ^ l := Nat.mul_lt_mul_of_pos_right (by have := Nat.two_pow_pos s; omega) (Nat.two_pow_pos l)
  rw [← Nat.pow_add] at e
  exact Nat.lt_of_lt_of_le e (pt_pw (c := 12) (by omega))
theorem pt_rnI {l s : Nat} (h : l + s ≤ 12) : (((1 : Int32) <<< (nI s &&& 31)) - 1) <<< (nI l &&& 31) = nI ((2 ^ s - 1) * 2 ^ l) := by
  rw [pt_msk (by omega), pt_shl (by omega) (Nat.lt_trans (pt_rnB h) (by decide))]
/-! sets of patterns as ints -/
def pt_b1 (x : Int32) (q : Nat) : Prop := (x >>> (nI q &&& 31)) &&& 1 = 1
theorem pt_1b : ∀ i, i < 32 → bt 1 i = decide (i = 0) := by decide +kernel
theorem pt_b1_bt {x : Int32} {q : Nat} (hq : q < 32) : pt_b1 x q ↔ bt x q = true := by
  unfold pt_b1
  constructor
  · intro h
    have e : bt ((x >>> (nI q &&& 31)) &&& 1) 0 = bt 1 0 := by rw [h]
    rw [b_and, b_sshr q hq x (by omega), if_pos (by omega), pt_1b 0 (by omega), decide_eq_true rfl, Bool.and_true] at e
    exact e
  · intro h
    apply b_ext
    intro i hi
    rw [b_and, pt_1b i hi]
    by_cases c : i = 0
    · rw [c, b_sshr q hq x (by omega), if_pos (by omega), Nat.add_zero, h]; rfl
    · rw [decide_eq_false c, Bool.and_false]
theorem pt_b1_l {x y : Int32} {q : Nat} (hq : q < 32) (h : pt_b1 x q) : pt_b1 (x ||| y) q := by
  rw [pt_b1_bt hq] at h ⊢
  rw [b_or, h, Bool.true_or]
theorem pt_b1_r {x : Int32} {q : Nat} (hq : q < 32) : pt_b1 (x ||| ((1 : Int32) <<< (nI q &&& 31))) q := by
  rw [pt_b1_bt hq, b_or, b_shl q hq 1 hq, decide_eq_true (Nat.le_refl q), Nat.sub_self, pt_1b 0 (by omega), decide_eq_true rfl, Bool.and_true, Bool.or_true]
theorem pt_root : ∀ p, p < 17 → ∀ q, q < p → (((((1 : Int32) <<< (nI p &&& 31)) - 1) >>> (nI q &&& 31)) &&& 1) = 1 := by decide +kernel
/-! the value of a field: v of s bits, signed where g is not 0 -/
theorem sb_negT {w : Nat} (h : w < 2 ^ 31) : (-nI w).toInt = -(w : Int) := by
  rw [Int32.toInt_neg, nI_toInt h]
  exact Int.bmod_eq_of_le (by omega) (by omega)
def pt_sv (s : Nat) (g : Int32) (v : Nat) : Int32 := if g = 0 then nI v else if v < 2 ^ (s - 1) then nI v else nI v - nI (2 ^ s)
theorem pt_sv0 {s v : Nat} {g : Int32} (h : g = 0) : pt_sv s g v = nI v := if_pos h
theorem pt_sv1 {s v : Nat} {g : Int32} (hv : v < 2 ^ (s - 1)) : pt_sv s g v = nI v := by
  unfold pt_sv
  by_cases h : g = 0
  · rw [if_pos h]
  · rw [if_neg h, if_pos hv]
theorem pt_sv2 {s v : Nat} {g : Int32} (h : ¬ g = 0) (hv : ¬ v < 2 ^ (s - 1)) : pt_sv s g v = nI v - nI (2 ^ s) := by
  unfold pt_sv
  rw [if_neg h, if_neg hv]
theorem pt_dbl {s : Nat} (h : 1 ≤ s) : (2 : Nat) ^ s = 2 ^ (s - 1) + 2 ^ (s - 1) := by
  obtain ⟨t, rfl⟩ : ∃ t, s = t + 1 := ⟨s - 1, by omega⟩
  exact pt_2 t
theorem pt_svI {s v : Nat} {g : Int32} (hg : ¬ g = 0) (hs : s ≤ 12) (hv : v < 2 ^ s) : (pt_sv s g v).toInt = if v < 2 ^ (s - 1) then (v : Int) else (v : Int) - (2 ^ s : Nat) := by
  have h : (2 : Nat) ^ s ≤ 4096 := pt_pw (c := 12) hs
  by_cases c : v < 2 ^ (s - 1)
  · rw [pt_sv1 c, if_pos c, nI_toInt (by omega)]
  · rw [pt_sv2 hg c, if_neg c, pk_sub_toInt (by omega) (by omega)]
theorem pt_0I : (0 : Int32).toInt = 0 := by decide
/-- unsigned: the range of values -/
theorem pt_rgU {s : Nat} {x : Int32} (hs : s ≤ 12) : (¬ x < 0 ∧ x ≤ nI (2 ^ s - 1)) ↔ ∃ v, v < 2 ^ s ∧ nI v = x := by
  have h : (2 : Nat) ^ s ≤ 4096 := pt_pw (c := 12) hs
  have h0 := Nat.two_pow_pos s
  constructor
  · intro ⟨h1, h2⟩
    obtain ⟨j, hj, rfl⟩ := nI_of h1
    rw [nI_leI hj (by omega)] at h2
    exact ⟨j, by omega, rfl⟩
  · intro ⟨v, hv, e⟩
    rw [← e]
    exact ⟨nI_pos (by omega), nI_le (by omega) (by omega)⟩
/-- signed: the range of values -/
theorem pt_rgS {s : Nat} {g x : Int32} (hg : ¬ g = 0) (h1 : 1 ≤ s) (hs : s ≤ 12) : (¬ x < -nI (2 ^ (s - 1)) ∧ x ≤ nI (2 ^ (s - 1) - 1)) ↔ ∃ v, v < 2 ^ s ∧ pt_sv s g v = x := by
  have h : (2 : Nat) ^ s ≤ 4096 := pt_pw (c := 12) hs
  have h0 := Nat.two_pow_pos (s - 1)
  have hd := pt_dbl h1
  rw [Int32.lt_iff_toInt_lt, Int32.le_iff_toInt_le, sb_negT (by omega), nI_toInt (by omega)]
  constructor
  · intro ⟨h2, h3⟩
    by_cases c : 0 ≤ x.toInt
    · refine ⟨x.toInt.toNat, by omega, ?_⟩
      apply Int32.toInt_inj.mp
      rw [pt_svI hg hs (by omega), if_pos (by omega)]
      omega
    · refine ⟨(x.toInt + (2 ^ s : Nat)).toNat, by omega, ?_⟩
      apply Int32.toInt_inj.mp
      rw [pt_svI hg hs (by omega), if_neg (by omega)]
      omega
  · intro ⟨v, hv, e⟩
    rw [← e, pt_svI hg hs hv]
    by_cases c : v < 2 ^ (s - 1)
    · rw [if_pos c]; omega
    · rw [if_neg c]; omega
/-- a value laid into its place -/
theorem pt_lay {s l v : Nat} {x : Int32} (h : l + s ≤ 12) (hx : x.toBitVec.toNat % 2 ^ s = v) : (x <<< (nI l &&& 31)) &&& nI ((2 ^ s - 1) * 2 ^ l) = nI (v * 2 ^ l) := by
  have hv : v < 2 ^ s := by rw [← hx]; exact Nat.mod_lt _ (Nat.two_pow_pos s)
  have hvl : v * 2 ^ l < 4096 := by
    have e : v * 2 ^ l < 2 ^ s * 2 ^ l := Nat.mul_lt_mul_of_pos_right hv (Nat.two_pow_pos l)
    rw [← Nat.pow_add] at e
    exact Nat.lt_of_lt_of_le e (pt_pw (c := 12) (by omega))
  apply Int32.toBitVec_inj.mp
  apply BitVec.eq_of_toNat_eq
  rw [Int32.toBitVec_and, BitVec.toNat_and, pk_shl _ _ l (s_l l (by omega)), pk_tn (Nat.lt_trans (pt_rnB h) (by decide)), pk_tn (Nat.lt_trans hvl (by decide)), ← hx]
  generalize x.toBitVec.toNat = X
  apply Nat.eq_of_testBit_eq
  intro j
  rw [Nat.testBit_and, Nat.testBit_mod_two_pow, Nat.testBit_mul_two_pow, Nat.testBit_mul_two_pow, Nat.testBit_mul_two_pow, Nat.testBit_two_pow_sub_one, Nat.testBit_mod_two_pow]
  by_cases c : l ≤ j
  · by_cases d : j - l < s
    · rw [decide_eq_true c, decide_eq_true d, decide_eq_true (p := j < 32) (by omega)]
      cases X.testBit (j - l) <;> rfl
    · rw [decide_eq_false d, Bool.and_false, Bool.and_false, Bool.false_and, Bool.and_false]
  · rw [decide_eq_false c, Bool.false_and, Bool.false_and, Bool.and_false, Bool.false_and]
theorem pt_svm {s v : Nat} {g : Int32} (hs : s ≤ 12) (hv : v < 2 ^ s) : (pt_sv s g v).toBitVec.toNat % 2 ^ s = v := by
  have h : (2 : Nat) ^ s ≤ 4096 := pt_pw (c := 12) hs
  have e0 : (nI v).toBitVec.toNat % 2 ^ s = v := by rw [pk_tn (by omega), Nat.mod_eq_of_lt hv]
  by_cases hg : g = 0
  · rw [pt_sv0 hg]; exact e0
  · by_cases c : v < 2 ^ (s - 1)
    · rw [pt_sv1 c]; exact e0
    · rw [pt_sv2 hg c, Int32.toBitVec_sub, BitVec.toNat_sub, pk_tn (by omega), pk_tn (by omega)]
      have e1 : (2 : Nat) ^ 32 = 2 ^ s * 2 ^ (32 - s) := by rw [← Nat.pow_add, show s + (32 - s) = 32 by omega]
      have e2 : 2 ^ 32 - 2 ^ s + v = 2 ^ s * (2 ^ (32 - s) - 1) + v := by rw [e1, Nat.mul_sub, Nat.mul_one]
      have e3 : (2 ^ 32 - 2 ^ s + v) % 2 ^ 32 = 2 ^ 32 - 2 ^ s + v := Nat.mod_eq_of_lt (by omega)
      rw [e3, e2, Nat.mul_add_mod, Nat.mod_eq_of_lt hv]
/-- one more bit of a field -/
theorem pt_m2 (W b : Nat) : W % 2 ^ (b + 1) = W % 2 ^ b + W / 2 ^ b % 2 * 2 ^ b := by
  rw [Nat.pow_succ, Nat.mod_mul, Nat.mul_comm (2 ^ b) (W / 2 ^ b % 2)]
theorem pt_rd0 {W b : Nat} (hb : b < 12) : nI (W % 2 ^ b) + (nI (W / 2 ^ b % 2) <<< (nI b &&& 31)) = nI (W % 2 ^ (b + 1)) := by
  have h : (2 : Nat) ^ b ≤ 4096 := pt_pw (c := 12) (by omega)
  rw [pt_shl (by omega) (by rcases pt_b01 (W / 2 ^ b) with e | e <;> rw [e] <;> omega), nI_add, ← pt_m2]
theorem pt_rd1 {W s : Nat} {g : Int32} (hg : ¬ g = 0) (h1 : 1 ≤ s) (hs : s ≤ 12) : nI (W % 2 ^ (s - 1)) + (-(nI (W / 2 ^ (s - 1) % 2) <<< (nI (s - 1) &&& 31))) = pt_sv s g (W % 2 ^ s) := by
  have h : (2 : Nat) ^ (s - 1) ≤ 4096 := pt_pw (c := 12) (by omega)
  have hl : W % 2 ^ (s - 1) < 2 ^ (s - 1) := Nat.mod_lt _ (Nat.two_pow_pos _)
  have e := pt_m2 W (s - 1)
  rw [show s - 1 + 1 = s by omega] at e
  rcases pt_b01 (W / 2 ^ (s - 1)) with c | c
  · rw [c, Nat.zero_mul, Nat.add_zero] at e
    rw [c, e, pt_sv1 hl, pt_shl (by omega) (by omega), Nat.zero_mul, nI_0, Int32.neg_zero, Int32.add_zero]
  · rw [c, Nat.one_mul] at e
    rw [c, e, pt_sv2 hg (by omega), pt_shl (by omega) (by omega), Nat.one_mul, pt_dbl h1, ← nI_add, ← nI_add]
    generalize nI (W % 2 ^ (s - 1)) = a
    generalize nI (2 ^ (s - 1)) = c
    grind
end
section
/-! the table: p patterns, their masks and bits as naturals -/
def pt_tab (p : Nat) (M B : Nat → Nat) (mk ft : Nat → Int32) : Prop :=
  p ≤ 16 ∧ (∀ i, M i < 4096) ∧ (∀ i, B i &&& M i = B i) ∧ (∀ i, mk i = nI (M i)) ∧ (∀ i, ft i = nI (B i))
theorem pt_Bl {p : Nat} {M B : Nat → Nat} {mk ft : Nat → Int32} (T : pt_tab p M B mk ft) (i : Nat) : B i < 4096 := by
  have h1 := T.2.1 i
  have h2 : B i &&& M i ≤ M i := Nat.and_le_right
  rw [T.2.2.1 i] at h2
  omega
theorem pt_cvI {p : Nat} {M B : Nat → Nat} {mk ft : Nat → Int32} (T : pt_tab p M B mk ft) {i w : Nat} (hi : i < 16) (hw : w < 4096) : (nI w &&& mk (nI i).toNatClampNeg = ft (nI i).toNatClampNeg) ↔ w &&& M i = B i := by
  have h1 := pt_Bl T i
  have h2 : w &&& M i ≤ w := Nat.and_le_left
  rw [nI_clamp (by omega), T.2.2.2.1 i, T.2.2.2.2 i, nx_and, nI_eq (by omega) (by omega)]
theorem pt_mkb {p : Nat} {M B : Nat → Nat} {mk ft : Nat → Int32} (T : pt_tab p M B mk ft) {i e : Nat} (hi : i < 16) (he : e < 32) : ((mk (nI i).toNatClampNeg) >>> (nI e &&& 31)) &&& 1 = nI (M i / 2 ^ e % 2) := by
  have h1 := T.2.1 i
  rw [nI_clamp (by omega), T.2.2.2.1 i, pt_bit (by omega) he]
theorem pt_ftb {p : Nat} {M B : Nat → Nat} {mk ft : Nat → Int32} (T : pt_tab p M B mk ft) {i e : Nat} (hi : i < 16) (he : e < 32) : ((ft (nI i).toNatClampNeg) >>> (nI e &&& 31)) &&& 1 = nI (B i / 2 ^ e % 2) := by
  have h1 := pt_Bl T i
  rw [nI_clamp (by omega), T.2.2.2.2 i, pt_bit (by omega) he]
theorem pt_suc {n d : Nat} (h : d < n) : ∃ k, n = k + 1 := ⟨n - 1, by omega⟩
/-! the decision tree -/
def pt_nd (p : Nat) (M B : Nat → Nat) (N : Nat) (ps ak bl : Nat → Int32) (i : Nat) : Prop :=
  ak i < 0 ∨ ∃ e c, e < 12 ∧ ak i = nI e ∧ bl i = nI c ∧ c + 1 < N ∧ ∀ v, v < 2 → ∀ q, q < p → pt_b1 (ps i) q → (M q / 2 ^ e % 2 = 0 ∨ B q / 2 ^ e % 2 = v) → pt_b1 (ps (c + v)) q
def pt_tr (p : Nat) (M B : Nat → Nat) (N : Nat) (ps ak bl : Nat → Int32) : Prop :=
  1 ≤ N ∧ N ≤ 127 ∧ (∀ q, q < p → pt_b1 (ps 0) q) ∧ ∀ j, j < N → pt_nd p M B N ps ak bl j
def pt_tree (p : Nat) (M B : Nat → Nat) (bu : Int32) (ps ak bl : Nat → Int32) : Prop :=
  bu = 0 ∨ ∃ N, pt_tr p M B N ps ak bl
theorem pt_nd_mono {p : Nat} {M B : Nat → Nat} {N N' : Nat} {ps ak bl ps' ak' bl' : Nat → Int32} {j : Nat} (h : pt_nd p M B N ps ak bl j) (hj : j < N) (hN : N ≤ N') (hp : ∀ i, i < N → ps' i = ps i) (ha : ak' j = ak j) (hb : bl' j = bl j) : pt_nd p M B N' ps' ak' bl' j := by
  rcases h with h | ⟨e, c, h1, h2, h3, h4, h5⟩
  · exact Or.inl (by rw [ha]; exact h)
  · refine Or.inr ⟨e, c, h1, ha.trans h2, hb.trans h3, by omega, fun v hv q hq hb1 hf => ?_⟩
    rw [hp j hj] at hb1
    rw [hp (c + v) (by omega)]
    exact h5 v hv q hq hb1 hf
section
variable {p : Nat} {M B : Nat → Nat} {b m bu nd : Int32} {mk ft fl lo sz sg ps ak bl : Nat → Int32}
theorem pt_xcount4 {post : Int32 → Prop} (K : ∀ r, post r) (x0 : Int32) : ∀ d i n x1, i + d = 16 → d < n → wX_count_4 post x0 n x1 (nI i) := by
  intro d
  induction d with
  | zero =>
    intro i n x1 hi hn
    obtain ⟨n, rfl⟩ := pt_suc hn
    exact br_t (nI_le (a := 16) (by omega) (by omega)) (K x1)
  | succ d ih =>
    intro i n x1 hi hn
    obtain ⟨n, rfl⟩ := pt_suc hn
    exact br_f (nI_ge (b := 16) (by omega) (by decide)) (nm_e (nm_r (nI_1 i) (ih (i + 1) n _ (by omega) (by omega))))
theorem pt_xcount {post : Int32 → Prop} (K : ∀ r, post r) (x : Int32) : wpX_count post x := ⟨17, pt_xcount4 K x 16 0 17 0 (by omega) (by omega)⟩
theorem pt_xwb6 (T : pt_tab p M B mk ft) {set : Int32} {e v : Nat} (he : e < 32) (hv : v < 2) {post : Int32 → Prop}
    (K : ∀ r, (∀ q, q < p → pt_b1 set q → (M q / 2 ^ e % 2 = 0 ∨ B q / 2 ^ e % 2 = v) → pt_b1 r q) → post r) :
    ∀ d i n s, i + d = p → d < n → (∀ q, q < i → pt_b1 set q → (M q / 2 ^ e % 2 = 0 ∨ B q / 2 ^ e % 2 = v) → pt_b1 s q) →
      wX_withBit_6 post set (nI e) (nI v) (nI p) b m bu nd mk ft fl lo sz sg ps ak bl n s (nI i) := by
  have hp := T.1
  intro d
  induction d with
  | zero =>
    intro i n s hi hn H
    obtain ⟨n, rfl⟩ := pt_suc hn
    refine br_t (nI_le (by omega) (by omega)) (K s ?_)
    intro q hq
    exact H q (by omega)
  | succ d ih =>
    intro i n s hi hn H
    obtain ⟨n, rfl⟩ := pt_suc hn
    have hin : vp_in (nI i) 16 := vp_in_nI (by omega) (by omega)
    have em := pt_mkb T (i := i) (e := e) (by omega) he
    have ef := pt_ftb T (i := i) (e := e) (by omega) he
    have hM2 : M i / 2 ^ e % 2 < 2 := Nat.mod_lt _ (by omega)
    have hB2 : B i / 2 ^ e % 2 < 2 := Nat.mod_lt _ (by omega)
    -- the pattern fits
    have hy : wX_withBit_44 post (wX_withBit_6 post set (nI e) (nI v) (nI p) b m bu nd mk ft fl lo sz sg ps ak bl n) set (nI e) (nI v) s (nI i) (nI p) b m bu nd mk ft fl lo sz sg ps ak bl := by
      unfold wX_withBit_44 wX_withBit_49
      by_cases c : pt_b1 set i
      · refine br_t c (br_f (by decide) (nm_e (nm_r (nI_1 i) (ih (i + 1) n _ (by omega) (by omega) ?_))))
        intro q hq h1 h2
        by_cases d : q = i
        · subst d; exact pt_b1_r (by omega)
        · exact pt_b1_l (by omega) (H q (by omega) h1 h2)
      · refine br_f c (nm_r (nI_1 i) (ih (i + 1) n _ (by omega) (by omega) ?_))
        intro q hq h1 h2
        by_cases d : q = i
        · subst d; exact absurd h1 c
        · exact H q (by omega) h1 h2
    have hno : ¬ (M i / 2 ^ e % 2 = 0 ∨ B i / 2 ^ e % 2 = v) → wX_withBit_49 post (wX_withBit_6 post set (nI e) (nI v) (nI p) b m bu nd mk ft fl lo sz sg ps ak bl n) set (nI e) (nI v) s (nI i) 0 (nI p) b m bu nd mk ft fl lo sz sg ps ak bl := by
      intro nf
      have H' : ∀ q, q < i + 1 → pt_b1 set q → (M q / 2 ^ e % 2 = 0 ∨ B q / 2 ^ e % 2 = v) → pt_b1 s q := by
        intro q hq h1 h2
        by_cases d : q = i
        · subst d; exact absurd h2 nf
        · exact H q (by omega) h1 h2
      unfold wX_withBit_49
      exact br_c (fun _ => br_t rfl (nm_r (nI_1 i) (ih (i + 1) n _ (by omega) (by omega) H'))) (fun _ => nm_r (nI_1 i) (ih (i + 1) n _ (by omega) (by omega) H'))
    refine br_f (nI_ge (by omega) (by omega)) (And.intro hin ?_)
    by_cases c : M i / 2 ^ e % 2 = 0
    · exact br_t (by rw [em, c]; rfl) hy
    · refine br_f (by rw [em]; exact nI_ne0 (by omega) (by omega)) (And.intro hin ?_)
      by_cases c2 : B i / 2 ^ e % 2 = v
      · exact br_t (by rw [ef, c2]) hy
      · exact br_f (by rw [ef, nI_eq (by omega) (by omega)]; exact c2) (hno (by omega))
theorem pt_xwb (T : pt_tab p M B mk ft) {set xe xv : Int32} (e v : Nat) (he : e < 32) (hv : v < 2) (hxe : xe = nI e) (hxv : xv = nI v) {post : Int32 → Prop}
    (K : ∀ r, (∀ q, q < p → pt_b1 set q → (M q / 2 ^ e % 2 = 0 ∨ B q / 2 ^ e % 2 = v) → pt_b1 r q) → post r) :
    wpX_withBit post (nI p, b, m, bu, nd, mk, ft, fl, lo, sz, sg, ps, ak, bl) set xe xv := by
  subst hxe hxv
  exact ⟨p + 1, pt_xwb6 T he hv K p 0 (p + 1) 0 (by omega) (by omega) (fun q hq => absurd hq (by omega))⟩
theorem pt_xsp42 (T : pt_tab p M B mk ft) {i N : Nat} (hi : i < N) (hN : N + 2 ≤ 127) {post : SX → Prop}
    (K : ∀ (N' : Nat) (ps' ak' bl' : Nat → Int32), N ≤ N' → N' ≤ 127 → (∀ j, j < N → ps' j = ps j) → (∀ j, j ≠ i → ak' j = ak j ∧ bl' j = bl j) → pt_nd p M B N' ps' ak' bl' i → post (nI p, b, m, bu, nI N', mk, ft, fl, lo, sz, sg, ps', ak', bl')) :
    ∀ d c n x4 (ak' : Nat → Int32), c + d = 12 → d < n → (ak' i = -1 ∨ ∃ e, e < 12 ∧ ak' i = nI e) → (∀ j, j ≠ i → ak' j = ak j) →
      wX_split_42 post (nI i) (ps i) (nI p) b m bu (nI N) n x4 (nI c) mk ft fl lo sz sg ps ak' bl := by
  have hin : vp_in (nI i) 128 := vp_in_nI (by omega) (by omega)
  have ci : (nI i).toNatClampNeg = i := nI_clamp (by omega)
  intro d
  induction d with
  | zero =>
    intro c n x4 ak' hc hn ha hj
    obtain ⟨n, rfl⟩ := pt_suc hn
    refine br_t (nI_le (a := 12) (by omega) (by omega)) (And.intro hin ?_)
    rcases ha with ha | ⟨e, he, ha⟩
    · refine br_f (by rw [ci, ha]; decide) (K N ps ak' bl (Nat.le_refl N) (by omega) (fun j _ => rfl) (fun j h => ⟨hj j h, rfl⟩) (Or.inl (by rw [ha]; decide)))
    · have hxe : ak' (nI i).toNatClampNeg = nI e := by rw [ci]; exact ha
      refine br_t (by rw [hxe]; exact nI_pos' (by omega)) (And.intro hin (fun bl2 e1 => And.intro hin ?_))
      refine pt_xwb T e 0 (by omega) (by omega) hxe rfl (fun r0 h0 => And.intro (vp_in_nI (by omega) (by omega)) (fun ps2 e2 => And.intro hin ?_))
      refine pt_xwb T e 1 (by omega) (by omega) hxe rfl (fun r1 h1 => And.intro (by rw [nI_1]; exact vp_in_nI (by omega) (by omega)) (fun ps3 e3 nd2 e4 => ?_))
      have e2' : ps2 = upd ps N r0 := by rw [e2, nI_clamp (by omega)]
      have e3' : ps3 = upd ps2 (N + 1) r1 := by rw [e3, nI_1, nI_clamp (by omega)]
      have e1' : bl2 = upd bl i (nI N) := by rw [e1, ci]
      have e4' : nd2 = nI (N + 2) := e4.trans (nI_add N 2)
      have hlow : ∀ j, j < N → ps3 j = ps j := by
        intro j hjN
        rw [e3', pk_un (by omega), e2', pk_un (by omega)]
      rw [e4']
      refine K (N + 2) ps3 ak' bl2 (by omega) hN hlow (fun j h => ⟨hj j h, by rw [e1', pk_un h]⟩) (Or.inr ⟨e, N, he, ha, by rw [e1', pk_us], by omega, fun v hv q hq hb hf => ?_⟩)
      rw [hlow i hi] at hb
      by_cases v0 : v = 0
      · subst v0
        rw [Nat.add_zero, e3', pk_un (by omega), e2', pk_us]
        exact h0 q hq hb hf
      · have v1 : v = 1 := by omega
        subst v1
        rw [e3', pk_us]
        exact h1 q hq hb hf
  | succ d ih =>
    intro c n x4 ak' hc hn ha hj
    obtain ⟨n, rfl⟩ := pt_suc hn
    have H : ∀ z, wX_split_97 post (wX_split_42 post (nI i) (ps i) (nI p) b m bu (nI N) n) (nI i) (ps i) x4 (nI c) z (nI p) b m bu (nI N) mk ft fl lo sz sg ps ak' bl := by
      intro z
      unfold wX_split_97
      refine br_c (fun _ => nm_r (nI_1 c) (ih (c + 1) n x4 ak' (by omega) (by omega) ha hj)) (fun _ => And.intro hin (fun ak2 e2 => nm_r (nI_1 c) ?_))
      have e2' : ak2 = upd ak' i (nI c) := by rw [e2, ci]
      refine ih (c + 1) n z ak2 (by omega) (by omega) (Or.inr ⟨c, by omega, by rw [e2', pk_us]⟩) (fun j h => ?_)
      rw [e2', pk_un h]
      exact hj j h
    refine br_f (nI_ge (b := 12) (by omega) (by decide)) ?_
    refine pt_xwb T c 0 (by omega) (by omega) rfl rfl (fun r0 _ => ?_)
    refine pt_xwb T c 1 (by omega) (by omega) rfl rfl (fun r1 _ => ?_)
    refine pt_xcount (fun k0 => ?_) _
    refine pt_xcount (fun k1 => ?_) _
    exact br_c (fun _ => H k1) (fun _ => H k0)
theorem pt_xsplit (T : pt_tab p M B mk ft) {i N : Nat} (hi : i < N) (hN : N ≤ 127) {post : SX → Prop}
    (K : ∀ (N' : Nat) (ps' ak' bl' : Nat → Int32), N ≤ N' → N' ≤ 127 → (∀ j, j < N → ps' j = ps j) → (∀ j, j ≠ i → ak' j = ak j ∧ bl' j = bl j) → pt_nd p M B N' ps' ak' bl' i → post (nI p, b, m, bu, nI N', mk, ft, fl, lo, sz, sg, ps', ak', bl')) :
    wpX_split post (nI p, b, m, bu, nI N, mk, ft, fl, lo, sz, sg, ps, ak, bl) (nI i) := by
  have hin : vp_in (nI i) 128 := vp_in_nI (by omega) (by omega)
  have ci : (nI i).toNatClampNeg = i := nI_clamp (by omega)
  refine And.intro hin (fun x2 e2 => pt_xcount (fun r => And.intro hin (fun ak2 e3 => ?_)) _)
  have e2' : x2 = ps i := by rw [e2, ci]
  have e3' : ak2 = upd ak i (-1) := by rw [e3, ci]
  have hleaf : post (nI p, b, m, bu, nI N, mk, ft, fl, lo, sz, sg, ps, ak2, bl) :=
    K N ps ak2 bl (Nat.le_refl N) hN (fun j _ => rfl) (fun j h => ⟨by rw [e3', pk_un h], rfl⟩) (Or.inl (by rw [e3', pk_us]; decide))
  subst e2'
  refine br_c (fun _ => hleaf) (fun _ => pk_le (N + 2) 127 (fun h => ⟨13, ?_⟩) (fun _ => hleaf) (nI_add N 2) rfl)
  refine pt_xsp42 T (ak := ak2) hi h (fun N' ps' ak' bl' h1 h2 h3 h4 h5 => K N' ps' ak' bl' h1 h2 h3 (fun j hj => ⟨(h4 j hj).1.trans (by rw [e3', pk_un hj]), (h4 j hj).2⟩) h5) 12 0 13 r ak2 (by omega) (by omega) (Or.inl (by rw [e3', pk_us])) (fun j _ => rfl)
theorem pt_xb34 (T : pt_tab p M B mk ft) {post : SX → Prop}
    (K : ∀ (N : Nat) (ps ak bl : Nat → Int32), pt_tr p M B N ps ak bl → post (nI p, b, m, bu, nI N, mk, ft, fl, lo, sz, sg, ps, ak, bl)) :
    ∀ (n i N : Nat) (ps ak bl : Nat → Int32), i ≤ N → N ≤ 127 → 127 < n + i → 1 ≤ N → (∀ q, q < p → pt_b1 (ps 0) q) → (∀ j, j < i → pt_nd p M B N ps ak bl j) →
      wX_build_34 post n (nI i) (nI p) b m bu (nI N) mk ft fl lo sz sg ps ak bl := by
  intro n
  induction n with
  | zero => intro i N ps ak bl h1 h2 h3; omega
  | succ n ih =>
    intro i N ps ak bl h1 h2 h3 h4 h5 h6
    refine pk_le N i (fun h => ?_) (fun h => ?_)
    · have e : i = N := by omega
      subst e
      exact K i ps ak bl ⟨h4, h2, h5, h6⟩
    · refine pt_xsplit T h h2 (fun N' ps' ak' bl' g1 g2 g3 g4 g5 => nm_r (nI_1 i) ?_)
      refine ih (i + 1) N' ps' ak' bl' (by omega) g2 (by omega) (by omega) (fun q hq => ?_) (fun j hj => ?_)
      · rw [g3 0 (by omega)]; exact h5 q hq
      · by_cases e : j = i
        · subst e; exact g5
        · exact pt_nd_mono (h6 j (by omega)) (by omega) g1 g3 (g4 j e).1 (g4 j e).2
theorem pt_xbuild (T : pt_tab p M B mk ft) (Tr : pt_tree p M B bu ps ak bl) {post : SX → Prop}
    (K : ∀ (bu' nd' : Int32) (ps' ak' bl' : Nat → Int32) (N : Nat), pt_tr p M B N ps' ak' bl' → post (nI p, b, m, bu', nd', mk, ft, fl, lo, sz, sg, ps', ak', bl')) :
    wpX_build post (nI p, b, m, bu, nd, mk, ft, fl, lo, sz, sg, ps, ak, bl) := by
  have hp := T.1
  refine br_c (fun _ ps2 e2 => ⟨128, ?_⟩) (fun hb => ?_)
  · refine pt_xb34 T (fun N ps ak bl h => K 1 (nI N) ps ak bl N h) 128 0 1 ps2 ak bl (by omega) (by omega) (by omega) (by omega) (fun q hq => ?_) (fun j hj => absurd hj (by omega))
    rw [e2, pk_us]
    exact pt_root p (by omega) q hq
  · rcases Tr with h | ⟨N, h⟩
    · exact absurd h hb
    · exact K bu nd ps ak bl N h
theorem pt_xl49 (T : pt_tab p M B mk ft) {w k : Nat} (hw : w < 4096) (hk : k < 128) (hps : ∀ q, q < p → w &&& M q = B q → pt_b1 (ps k) q) {r : Int32} {post : Int32 → SX → Prop}
    (K : post r (nI p, b, m, bu, nd, mk, ft, fl, lo, sz, sg, ps, ak, bl)) :
    ∀ d i n, i + d = p → d < n → pt_fst (fun i => w &&& M i = B i) i p r → wX_lookUp_49 post (nI w) (nI k) (nI p) b m bu nd mk ft fl lo sz sg ps ak bl n (nI i) := by
  have hp := T.1
  have hin : vp_in (nI k) 128 := vp_in_nI hk (by omega)
  have ck : (nI k).toNatClampNeg = k := nI_clamp (by omega)
  intro d
  induction d with
  | zero =>
    intro i n hi hn hr
    obtain ⟨n, rfl⟩ := pt_suc hn
    rw [pt_fst_end hr (by omega)] at K
    exact br_t (nI_le (by omega) (by omega)) K
  | succ d ih =>
    intro i n hi hn hr
    obtain ⟨n, rfl⟩ := pt_suc hn
    have hi6 : vp_in (nI i) 16 := vp_in_nI (by omega) (by omega)
    refine br_f (nI_ge (by omega) (by omega)) (And.intro hin ?_)
    by_cases c : pt_b1 (ps k) i
    · refine br_t (by rw [ck]; exact c) (And.intro hi6 (And.intro hi6 ?_))
      by_cases c2 : w &&& M i = B i
      · rw [pt_fst_hit hr (by omega) c2] at K
        exact br_t ((pt_cvI T (by omega) hw).mpr c2) K
      · exact br_f (fun z => c2 ((pt_cvI T (by omega) hw).mp z)) (nm_r (nI_1 i) (ih (i + 1) n (by omega) (by omega) (pt_fst_next hr c2)))
    · refine br_f (by rw [ck]; exact c) (nm_r (nI_1 i) (ih (i + 1) n (by omega) (by omega) (pt_fst_next hr (fun z => c (hps i (by omega) z)))))
theorem pt_xl8 (T : pt_tab p M B mk ft) {w N : Nat} (hw : w < 4096) (Tr : pt_tr p M B N ps ak bl) {r : Int32} (hr : pt_fst (fun i => w &&& M i = B i) 0 p r) {post : Int32 → SX → Prop}
    (K : post r (nI p, b, m, bu, nd, mk, ft, fl, lo, sz, sg, ps, ak, bl)) :
    ∀ d i n k, i + d = 16 → d < n → k < N → (∀ q, q < p → w &&& M q = B q → pt_b1 (ps k) q) → wX_lookUp_8 post (nI w) (nI p) b m bu nd mk ft fl lo sz sg ps ak bl n (nI k) (nI i) := by
  have hN := Tr.2.1
  intro d
  induction d with
  | zero =>
    intro i n k hi hn hk hps
    obtain ⟨n, rfl⟩ := pt_suc hn
    exact br_t (nI_le (a := 16) (by omega) (by omega)) ⟨p + 1, pt_xl49 T hw (by omega) hps K p 0 (p + 1) (by omega) (by omega) hr⟩
  | succ d ih =>
    intro i n k hi hn hk hps
    obtain ⟨n, rfl⟩ := pt_suc hn
    have hin : vp_in (nI k) 128 := vp_in_nI (by omega) (by omega)
    have ck : (nI k).toNatClampNeg = k := nI_clamp (by omega)
    refine br_f (nI_ge (b := 16) (by omega) (by decide)) (And.intro hin ?_)
    rcases Tr.2.2.2 k hk with h | ⟨e, c, he, h2, h3, h4, h5⟩
    · exact br_t (by rw [ck]; exact h) ⟨p + 1, pt_xl49 T hw (by omega) hps K p 0 (p + 1) (by omega) (by omega) hr⟩
    · have hx : (bl (nI k).toNatClampNeg) + ((nI w >>> ((ak (nI k).toNatClampNeg) &&& 31)) &&& 1) = nI (c + w / 2 ^ e % 2) := by
        rw [ck, h2, h3, pt_bit (by omega) (by omega), nI_add]
      refine br_f (by rw [ck, h2]; exact nI_pos (by omega)) (And.intro hin (And.intro hin (nm_r hx (nm_r (nI_1 i) ?_))))
      have v2 : w / 2 ^ e % 2 < 2 := Nat.mod_lt _ (by omega)
      exact ih (i + 1) n (c + w / 2 ^ e % 2) (by omega) (by omega) (by omega) (fun q hq hc => h5 _ v2 q hq (hps q hq hc) (pt_cvb hc e))
theorem pt_xlook (T : pt_tab p M B mk ft) (Tr : pt_tree p M B bu ps ak bl) {w : Nat} (hw : w < 4096) {r : Int32} (hr : pt_fst (fun i => w &&& M i = B i) 0 p r) {post : Int32 → SX → Prop}
    (K : ∀ (bu' nd' : Int32) (ps' ak' bl' : Nat → Int32), pt_tree p M B bu' ps' ak' bl' → post r (nI p, b, m, bu', nd', mk, ft, fl, lo, sz, sg, ps', ak', bl')) :
    wpX_lookUp post (nI p, b, m, bu, nd, mk, ft, fl, lo, sz, sg, ps, ak, bl) (nI w) := by
  unfold wpX_lookUp
  refine pt_xbuild T Tr (fun bu' nd' ps' ak' bl' N h => ⟨17, ?_⟩)
  exact pt_xl8 T hw h hr (K bu' nd' ps' ak' bl' (Or.inr ⟨N, h⟩)) 16 0 17 0 (by omega) (by omega) h.1 (fun q hq _ => h.2.2.1 q hq)
end
end
section
/-! checks of words and patterns on both sides -/
theorem pt_bad {x : Int32} (h : nI 4096 ≤ x) : ¬ x < 0 ∧ ¬ x ≤ 4095 ∧ 4095 < x ∧ 4096 ≤ x := by
  have e1 : (4095 : Int32).toInt = 4095 := by decide
  have e2 : (4096 : Int32).toInt = 4096 := by decide
  rw [Int32.le_iff_toInt_le, nI_toInt (by omega)] at h
  rw [Int32.lt_iff_toInt_lt, Int32.lt_iff_toInt_lt, Int32.le_iff_toInt_le, Int32.le_iff_toInt_le, e1, e2, pt_0I]
  omega
theorem pt_xbw1 {post : Int32 → Prop} {x : Int32} (h : x < 0 ∨ nI 4096 ≤ x) (K : post 1) : wpX_badWord post x := by
  refine br_c (fun _ => K) (fun h0 => ?_)
  rcases h with h | h
  · exact absurd h h0
  · exact br_f (pt_bad h).2.1 K
theorem pt_xbw0 {post : Int32 → Prop} {w : Nat} (h : w < 4096) (K : post 0) : wpX_badWord post (nI w) :=
  br_f (nI_pos (by omega)) (br_t (nI_le (b := 4095) (by omega) (by decide)) K)
section
variable {p : Nat} {M B : Nat → Nat} {b m bu nd : Int32} {mk ft fl lo sz sg ps ak bl : Nat → Int32}
theorem pt_xnp1 {post : Int32 → Prop} {x : Int32} (h : x < 0 ∨ nI p ≤ x) (K : post 1) : wpX_noPattern post (nI p, b, m, bu, nd, mk, ft, fl, lo, sz, sg, ps, ak, bl) x := by
  refine br_c (fun _ => K) (fun h0 => ?_)
  rcases h with h | h
  · exact absurd h h0
  · exact br_f (Int32.not_lt.mpr h) K
theorem pt_xnp0 {post : Int32 → Prop} {i : Nat} (hp : p ≤ 16) (h : i < p) (K : post 0) : wpX_noPattern post (nI p, b, m, bu, nd, mk, ft, fl, lo, sz, sg, ps, ak, bl) (nI i) :=
  br_f (nI_pos (by omega)) (br_t (nI_lt h (by omega)) K)
theorem pt_yip0 {post : Int32 → Prop} {x : Int32} (h : x < 0 ∨ nI p ≤ x) (K : post 0) : wpY_isPattern post (nI p, b, m, mk, ft, fl, lo, sz, sg) x := by
  refine br_c (fun _ => K) (fun h0 => ?_)
  rcases h with h | h
  · exact absurd h h0
  · exact br_t h K
theorem pt_yip1 {post : Int32 → Prop} {i : Nat} (hp : p ≤ 16) (h : i < p) (K : post 1) : wpY_isPattern post (nI p, b, m, mk, ft, fl, lo, sz, sg) (nI i) :=
  br_f (nI_pos (by omega)) (br_f (nI_ge h (by omega)) K)
theorem pt_yw0 {post : Int32 → Prop} {x : Int32} (h : x < 0 ∨ nI 4096 ≤ x) (K : post 0) : wpY_isWord post (nI p, b, m, mk, ft, fl, lo, sz, sg) x := by
  refine br_c (fun _ => K) (fun h0 => ?_)
  rcases h with h | h
  · exact absurd h h0
  · exact br_t h K
theorem pt_yw1 {post : Int32 → Prop} {w : Nat} (h : w < 4096) (K : post 1) : wpY_isWord post (nI p, b, m, mk, ft, fl, lo, sz, sg) (nI w) :=
  br_f (nI_pos (by omega)) (br_f (nI_ge (b := 4096) h (by decide)) K)
/-! the reference's covers and decode -/
theorem pt_ycov (T : pt_tab p M B mk ft) {post : Int32 → Prop} {i w : Nat} (hi : i < 16) (hw : w < 4096) (h1 : w &&& M i = B i → post 1) (h0 : ¬ (w &&& M i = B i) → post 0) : wpY_covers post (nI p, b, m, mk, ft, fl, lo, sz, sg) (nI i) (nI w) := by
  have hin : vp_in (nI i) 16 := vp_in_nI hi (by omega)
  refine And.intro hin (And.intro hin (br_c (fun c => h1 ((pt_cvI T hi hw).mp c)) (fun c => h0 (fun z => c ((pt_cvI T hi hw).mpr z)))))
theorem pt_yd13 (T : pt_tab p M B mk ft) {w : Nat} (hw : w < 4096) {r : Int32} {post : Int32 → Prop} (K : post r) :
    ∀ d i n, i + d = p → d < n → pt_fst (fun i => w &&& M i = B i) i p r → wY_decode_13 post (nI w) (nI p) b m mk ft fl lo sz sg n (nI i) := by
  have hp := T.1
  intro d
  induction d with
  | zero =>
    intro i n hi hn hr
    obtain ⟨n, rfl⟩ := pt_suc hn
    rw [pt_fst_end hr (by omega)] at K
    exact br_t (nI_le (by omega) (by omega)) K
  | succ d ih =>
    intro i n hi hn hr
    obtain ⟨n, rfl⟩ := pt_suc hn
    refine br_f (nI_ge (by omega) (by omega)) (pt_ycov T (by omega) hw (fun c => ?_) (fun c => ?_))
    · rw [pt_fst_hit hr (by omega) c] at K
      exact br_f (by decide) K
    · exact br_t rfl (nm_r (nI_1 i) (ih (i + 1) n (by omega) (by omega) (pt_fst_next hr c)))
theorem pt_ydec (T : pt_tab p M B mk ft) {w : Nat} (hw : w < 4096) {r : Int32} (hr : pt_fst (fun i => w &&& M i = B i) 0 p r) {post : Int32 → Prop} (K : post r) :
    wpY_decode post (nI p, b, m, mk, ft, fl, lo, sz, sg) (nI w) := by
  unfold wpY_decode
  exact pt_yw1 hw (br_f (by decide) ⟨p + 1, pt_yd13 T hw K p 0 (p + 1) (by omega) (by omega) hr⟩)
theorem pt_ydecB {x : Int32} (h : x < 0 ∨ nI 4096 ≤ x) {post : Int32 → Prop} (K : post (-7)) :
    wpY_decode post (nI p, b, m, mk, ft, fl, lo, sz, sg) x := by
  unfold wpY_decode
  exact pt_yw0 h (br_t rfl K)
theorem pt_r8 {i : Nat} (h : i < 4096) : ¬ nI i = -8 := by
  intro e
  have z : (nI i).toInt = (-8 : Int32).toInt := by rw [e]
  rw [nI_toInt (by omega), show (-8 : Int32).toInt = -8 by decide] at z
  omega
theorem pt_fst_un (hp : p ≤ 16) {w : Nat} {r : Int32} (hr : pt_fst (fun i => w &&& M i = B i) 0 p r) : r = -8 ↔ pt_un M B w p = true := by
  rw [pt_un_iff]
  rcases hr with ⟨e, h⟩ | ⟨i, e, _, h2, h3, _⟩
  · exact ⟨fun _ i hi => h i (by omega) hi, fun _ => e⟩
  · constructor
    · intro z
      rw [e] at z
      exact absurd z (pt_r8 (by omega))
    · intro z
      exact absurd h3 (z i h2)
/-! the reference's read of a field -/
theorem pt_yr5 {t s l w : Nat} (ht : t < 48) (h1 : 1 ≤ s) (hs : sz t = nI s) (hl : lo t = nI l) (hls : l + s ≤ 12) (hw : w < 4096) {post : Int32 → Prop} (K : post (pt_sv s (sg t) (w / 2 ^ l % 2 ^ s))) :
    ∀ d c n x3, c + d = s → d < n → (c < s → x3 = nI (w / 2 ^ l % 2 ^ c)) → (c = s → x3 = pt_sv s (sg t) (w / 2 ^ l % 2 ^ s)) → wY_read_5 post (nI t) (nI w) (nI p) b m mk ft fl lo sz sg n x3 (nI c) := by
  have hin : vp_in (nI t) 48 := vp_in_nI ht (by omega)
  have ct : (nI t).toNatClampNeg = t := nI_clamp (by omega)
  intro d
  induction d with
  | zero =>
    intro c n x3 hc hn _ e
    obtain ⟨n, rfl⟩ := pt_suc hn
    have e' := e (by omega)
    subst e'
    exact And.intro hin (br_t (by rw [ct, hs]; exact nI_le (by omega) (by omega)) K)
  | succ d ih =>
    intro c n x3 hc hn e _
    obtain ⟨n, rfl⟩ := pt_suc hn
    have e' := e (by omega)
    subst e'
    have hx : (nI w >>> (((lo (nI t).toNatClampNeg) + nI c) &&& 31)) &&& 1 = nI (w / 2 ^ l / 2 ^ c % 2) := by
      rw [ct, hl, nI_add, pt_bit (by omega) (by omega), Nat.pow_add, Nat.div_div_eq_div_mul]
    have H0 : (c + 1 < s ∨ sg t = 0) → wY_read_57 post (wY_read_5 post (nI t) (nI w) (nI p) b m mk ft fl lo sz sg n) (nI t) (nI w) (nI (w / 2 ^ l % 2 ^ c)) (nI c) (nI (w / 2 ^ l / 2 ^ c % 2)) (nI p) b m mk ft fl lo sz sg := by
      intro hz
      unfold wY_read_57 wY_read_58
      refine br_t rfl (nm_r (pt_rd0 (by omega)) (nm_r (nI_1 c) (ih (c + 1) n _ (by omega) (by omega) (fun _ => rfl) (fun z => ?_))))
      rw [z]
      rcases hz with hz | hz
      · omega
      · rw [pt_sv0 hz]
    have H1 : ¬ sg t = 0 → c + 1 = s → wY_read_58 post (wY_read_5 post (nI t) (nI w) (nI p) b m mk ft fl lo sz sg n) (nI t) (nI w) (nI (w / 2 ^ l % 2 ^ c)) (nI c) (nI (w / 2 ^ l / 2 ^ c % 2)) 1 (nI p) b m mk ft fl lo sz sg := by
      intro hg hcs
      have g := pt_rd1 (W := w / 2 ^ l) hg h1 (by omega : s ≤ 12)
      rw [show s - 1 = c by omega] at g
      unfold wY_read_58
      exact br_f (by decide) (nm_r g (nm_r (nI_1 c) (ih (c + 1) n _ (by omega) (by omega) (fun z => absurd z (by omega)) (fun _ => rfl))))
    refine And.intro hin (br_f (by rw [ct, hs]; exact nI_ge (by omega) (by omega)) (And.intro hin (nm_r hx (And.intro hin ?_))))
    by_cases g : sg t = 0
    · exact br_t (by rw [ct]; exact g) (H0 (Or.inr g))
    · refine br_f (by rw [ct]; exact g) (And.intro hin ?_)
      have es : sz (nI t).toNatClampNeg - 1 = nI (s - 1) := by rw [ct, hs, pt_n1 h1]
      by_cases z : c + 1 = s
      · exact br_t (by rw [es]; exact congrArg nI (by omega)) (H1 g z)
      · exact br_f (by rw [es, nI_eq (by omega) (by omega)]; omega) (H0 (Or.inl (by omega)))
theorem pt_yread {t s l w : Nat} (ht : t < 48) (h1 : 1 ≤ s) (hs : sz t = nI s) (hl : lo t = nI l) (hls : l + s ≤ 12) (hw : w < 4096) {post : Int32 → Prop} (K : post (pt_sv s (sg t) (w / 2 ^ l % 2 ^ s))) :
    wpY_read post (nI p, b, m, mk, ft, fl, lo, sz, sg) (nI t) (nI w) :=
  ⟨s + 1, pt_yr5 ht h1 hs hl hls hw K s 0 (s + 1) 0 (by omega) (by omega) (fun _ => by rw [Nat.pow_zero, Nat.mod_one]; rfl) (fun z => absurd z (by omega))⟩
/-! the reference's operand -/
theorem pt_yop37 {t s l : Nat} (ht : t < 48) (h1 : 1 ≤ s) (hs : sz t = nI s) (hl : lo t = nI l) (hls : l + s ≤ 12) {x : Int32} {post : Int32 → SY → Prop}
    (K1 : ∀ v y, v < 2 ^ s → pt_sv s (sg t) v = x → y = ((m &&& (nI ((2 ^ s - 1) * 2 ^ l) ^^^ (-1))) ||| nI (v * 2 ^ l)) → post y (nI p, b, y, mk, ft, fl, lo, sz, sg))
    (K0 : (∀ v, v < 2 ^ s → ¬ pt_sv s (sg t) v = x) → post (-6) (nI p, b, m, mk, ft, fl, lo, sz, sg)) :
    ∀ d c n, c + d = 2 ^ s → d < n → (∀ v, v < c → ¬ pt_sv s (sg t) v = x) → wY_operand_37 post x (nI t) (nI p) b m mk ft fl lo sz sg n (nI c) := by
  have hin : vp_in (nI t) 48 := vp_in_nI ht (by omega)
  have ct : (nI t).toNatClampNeg = t := nI_clamp (by omega)
  have h2 : (2 : Nat) ^ s ≤ 4096 := pt_pw (c := 12) (by omega)
  have es : (1 : Int32) <<< ((sz (nI t).toNatClampNeg) &&& 31) = nI (2 ^ s) := by rw [ct, hs, pt_sh1 (by omega)]
  intro d
  induction d with
  | zero =>
    intro c n hc hn hv
    obtain ⟨n, rfl⟩ := pt_suc hn
    exact And.intro hin (br_t (by rw [es]; exact nI_le (by omega) (by omega)) (K0 (fun v hv' => hv v (by omega))))
  | succ d ih =>
    intro c n hc hn hv
    obtain ⟨n, rfl⟩ := pt_suc hn
    have hcl : c * 2 ^ l < 4096 := by
      have e : c * 2 ^ l < 2 ^ s * 2 ^ l := Nat.mul_lt_mul_of_pos_right (by omega) (Nat.two_pow_pos l)
      rw [← Nat.pow_add] at e
      exact Nat.lt_of_lt_of_le e (pt_pw (c := 12) (by omega))
    have ew : nI c <<< ((lo (nI t).toNatClampNeg) &&& 31) = nI (c * 2 ^ l) := by rw [ct, hl, pt_shl (by omega) (by omega)]
    have er : ((((1 : Int32) <<< ((sz (nI t).toNatClampNeg) &&& 31)) - 1) <<< ((lo (nI t).toNatClampNeg) &&& 31)) = nI ((2 ^ s - 1) * 2 ^ l) := by rw [ct, hs, hl, pt_rnI hls]
    refine And.intro hin (br_f (by rw [es]; exact nI_ge (by omega) (by omega)) (And.intro hin ?_))
    rw [ew]
    refine pt_yread ht h1 hs hl hls hcl ?_
    rw [Nat.mul_div_cancel _ (Nat.two_pow_pos l), Nat.mod_eq_of_lt (by omega)]
    by_cases e : pt_sv s (sg t) c = x
    · refine br_t e (And.intro hin (And.intro hin (nm_r er (And.intro hin (fun y ey => ?_)))))
      exact K1 c y (by omega) e ey
    · refine br_f e (nm_r (nI_1 c) (ih (c + 1) n (by omega) (by omega) (fun v hv' => ?_)))
      by_cases q : v = c
      · rw [q]; exact e
      · exact hv v (by omega)
/-! the reference's scans over words -/
theorem pt_yh4 (T : pt_tab p M B mk ft) {post : Int32 → Prop} (K : post (nI (pt_cn (fun w => pt_un M B w p) 4096))) :
    ∀ d c n, c + d = 4096 → d < n → wY_holes_4 post (nI p) b m mk ft fl lo sz sg n (nI (pt_cn (fun w => pt_un M B w p) c)) (nI c) := by
  intro d
  induction d with
  | zero =>
    intro c n hc hn
    obtain ⟨n, rfl⟩ := pt_suc hn
    have e : c = 4096 := by omega
    rw [e]
    exact br_t (nI_le (a := 4096) (by omega) (by omega)) K
  | succ d ih =>
    intro c n hc hn
    obtain ⟨n, rfl⟩ := pt_suc hn
    obtain ⟨r, hr⟩ := pt_fst_ex (fun i => c &&& M i = B i) p p 0 (by omega)
    have hu := pt_fst_un T.1 hr
    have hi := ih (c + 1) n (by omega) (by omega)
    rw [pt_cn_s] at hi
    refine br_f (nI_ge (b := 4096) (by omega) (by decide)) (pt_ydec T (by omega) hr ?_)
    by_cases e : r = -8
    · rw [if_pos (hu.mp e)] at hi
      exact br_t e (nm_r (nI_1 _) (nm_r (nI_1 c) hi))
    · rw [if_neg (fun z => e (hu.mpr z)), Nat.add_zero] at hi
      exact br_f e (nm_r (nI_1 c) hi)
theorem pt_ynh13 (T : pt_tab p M B mk ft) {r : Int32} {post : Int32 → Prop} (K : post r) :
    ∀ d c n, c + d = 4096 → d < n → pt_fst (fun w => pt_un M B w p = true) c 4096 r → wY_nextHole_13 post (nI p) b m mk ft fl lo sz sg n (nI c) := by
  intro d
  induction d with
  | zero =>
    intro c n hc hn hr
    obtain ⟨n, rfl⟩ := pt_suc hn
    rw [pt_fst_end hr (by omega)] at K
    exact br_t (nI_le (a := 4096) (by omega) (by omega)) K
  | succ d ih =>
    intro c n hc hn hr
    obtain ⟨n, rfl⟩ := pt_suc hn
    obtain ⟨r', hr'⟩ := pt_fst_ex (fun i => c &&& M i = B i) p p 0 (by omega)
    have hu := pt_fst_un T.1 hr'
    refine br_f (nI_ge (b := 4096) (by omega) (by decide)) (pt_ydec T (by omega) hr' ?_)
    by_cases e : r' = -8
    · rw [pt_fst_hit hr (by omega) (hu.mp e)] at K
      exact br_t e K
    · exact br_f e (nm_r (nI_1 c) (ih (c + 1) n (by omega) (by omega) (pt_fst_next hr (fun z => e (hu.mpr z)))))
theorem pt_ync24 (T : pt_tab p M B mk ft) {i : Nat} (hi : i < p) {r : Int32} {post : Int32 → Prop} (K : post r) :
    ∀ d c n, c + d = 4096 → d < n → pt_fst (fun w => w &&& M i = B i) c 4096 r → wY_nextWord_24 post (nI i) (nI p) b m mk ft fl lo sz sg n (nI c) := by
  have hp := T.1
  intro d
  induction d with
  | zero =>
    intro c n hc hn hr
    obtain ⟨n, rfl⟩ := pt_suc hn
    rw [pt_fst_end hr (by omega)] at K
    exact br_t (nI_le (a := 4096) (by omega) (by omega)) K
  | succ d ih =>
    intro c n hc hn hr
    obtain ⟨n, rfl⟩ := pt_suc hn
    refine br_f (nI_ge (b := 4096) (by omega) (by decide)) (pt_ycov T (by omega) (by omega) (fun e => ?_) (fun e => ?_))
    · rw [pt_fst_hit hr (by omega) e] at K
      exact br_f (by decide) K
    · exact br_t rfl (nm_r (nI_1 c) (ih (c + 1) n (by omega) (by omega) (pt_fst_next hr e)))
theorem pt_yc43 (T : pt_tab p M B mk ft) {i t k0 : Nat} (hi : i < p) (ht : t < 4096) {post : Int32 → Prop} (K : ∀ k, k + k0 = pt_C (M i) (B i) (t + 1) → post (nI k)) :
    ∀ d c n k, c + d = t + 1 → d < n → k + k0 = pt_C (M i) (B i) c → wY_covered_43 post (nI i) (nI t) (nI p) b m mk ft fl lo sz sg n (nI k) (nI c) := by
  have hp := T.1
  intro d
  induction d with
  | zero =>
    intro c n k hc hn hk
    obtain ⟨n, rfl⟩ := pt_suc hn
    have e : c = t + 1 := by omega
    subst e
    exact br_t (nI_lt (by omega) (by omega)) (K k hk)
  | succ d ih =>
    intro c n k hc hn hk
    obtain ⟨n, rfl⟩ := pt_suc hn
    have hs : pt_C (M i) (B i) (c + 1) = pt_C (M i) (B i) c + (if decide (c &&& M i = B i) = true then 1 else 0) := pt_cn_s _ c
    refine br_f (nI_nlt (by omega) (by omega)) (pt_ycov T (by omega) (by omega) (fun e => ?_) (fun e => ?_))
    · rw [if_pos (decide_eq_true e)] at hs
      exact br_f (by decide) (nm_r (nI_1 k) (nm_r (nI_1 c) (ih (c + 1) n (k + 1) (by omega) (by omega) (by omega))))
    · rw [if_neg (by rw [decide_eq_true_eq]; exact e)] at hs
      exact br_t rfl (nm_r (nI_1 c) (ih (c + 1) n k (by omega) (by omega) (by omega)))
end
end
section
section
variable {p : Nat} {M B : Nat → Nat} {b m bu nd : Int32} {mk ft fl lo sz sg ps ak bl : Nat → Int32}
/-! ones, holes -/
theorem pt_xo4 {x : Nat} (hx : x < 2 ^ 31) {post : Int32 → Prop} (K : post (nI (pt_on x 12))) :
    ∀ d c n, c + d = 12 → d < n → wX_ones_4 post (nI x) n (nI (pt_on x c)) (nI c) := by
  intro d
  induction d with
  | zero =>
    intro c n hc hn
    obtain ⟨n, rfl⟩ := pt_suc hn
    have e : c = 12 := by omega
    rw [e]
    exact br_t (nI_le (a := 12) (by omega) (by omega)) K
  | succ d ih =>
    intro c n hc hn
    obtain ⟨n, rfl⟩ := pt_suc hn
    have e : nI (pt_on x c) + ((nI x >>> (nI c &&& 31)) &&& 1) = nI (pt_on x (c + 1)) := by rw [pt_bit hx (by omega), nI_add, pt_on_s]
    exact br_f (nI_ge (b := 12) (by omega) (by decide)) (nm_r e (nm_r (nI_1 c) (ih (c + 1) n (by omega) (by omega))))
theorem pt_xones {x : Nat} (hx : x < 2 ^ 31) {post : Int32 → Prop} (K : post (nI (pt_on x 12))) : wpX_ones post (nI x) :=
  ⟨13, pt_xo4 hx K 12 0 13 (by omega) (by omega)⟩
theorem pt_xh6 (T : pt_tab p M B mk ft) (hd : ∀ j, j < p → ∀ i, i < j → ∀ w, w &&& M j = B j → ¬ (w &&& M i = B i)) {post : Int32 → Prop} (K : post (nI (pt_cn (fun w => pt_un M B w p) 4096))) :
    ∀ d i n, i + d = p → d < n → wX_holes_6 post (nI p) b m bu nd mk ft fl lo sz sg ps ak bl n (nI (pt_cn (fun w => pt_un M B w i) 4096)) (nI i) := by
  have hp := T.1
  intro d
  induction d with
  | zero =>
    intro i n hi hn
    obtain ⟨n, rfl⟩ := pt_suc hn
    have e : i = p := by omega
    rw [e]
    exact br_t (nI_le (by omega) (by omega)) K
  | succ d ih =>
    intro i n hi hn
    obtain ⟨n, rfl⟩ := pt_suc hn
    have hin : vp_in (nI i) 16 := vp_in_nI (by omega) (by omega)
    have em : mk (nI i).toNatClampNeg = nI (M i) := by rw [nI_clamp (by omega), T.2.2.2.1 i]
    have hs := pt_ho_s (M := M) (B := B) (p := i) (fun j hj w hw => hd i (by omega) j hj w hw) 4096
    rw [pt_C_all (T.2.1 i) (T.2.2.1 i)] at hs
    have hM := T.2.1 i
    have ho := pt_on_le (M i) 12
    have e : nI (pt_cn (fun w => pt_un M B w i) 4096) - ((1 : Int32) <<< ((12 - nI (pt_on (M i) 12)) &&& 31)) = nI (pt_cn (fun w => pt_un M B w (i + 1)) 4096) := by
      rw [show (12 : Int32) - nI (pt_on (M i) 12) = nI (12 - pt_on (M i) 12) from pk_sub (a := 12) ho, pt_sh1 (by omega), hs, pk_sub (by omega), Nat.add_sub_cancel]
    refine br_f (nI_ge (by omega) (by omega)) (And.intro hin ?_)
    rw [em]
    exact pt_xones (by omega) (nm_r e (nm_r (nI_1 i) (ih (i + 1) n (by omega) (by omega))))
theorem pt_xholes (T : pt_tab p M B mk ft) (hd : ∀ j, j < p → ∀ i, i < j → ∀ w, w &&& M j = B j → ¬ (w &&& M i = B i)) {post : Int32 → Prop} (K : post (nI (pt_cn (fun w => pt_un M B w p) 4096))) :
    wpX_holes post (nI p, b, m, bu, nd, mk, ft, fl, lo, sz, sg, ps, ak, bl) := by
  have e : pt_cn (fun w => pt_un M B w 0) 4096 = 4096 := pt_cn_all 4096 (fun _ _ => rfl)
  have h := pt_xh6 (b := b) (m := m) (bu := bu) (nd := nd) (fl := fl) (lo := lo) (sz := sz) (sg := sg) (ps := ps) (ak := ak) (bl := bl) T hd K p 0 (p + 1) (by omega) (by omega)
  rw [e] at h
  exact ⟨p + 1, h⟩
/-! the next hole -/
theorem pt_xnh14 (T : pt_tab p M B mk ft) {r : Int32} {post : Int32 → SX → Prop}
    (K : ∀ (bu' nd' : Int32) (ps' ak' bl' : Nat → Int32), pt_tree p M B bu' ps' ak' bl' → post r (nI p, b, m, bu', nd', mk, ft, fl, lo, sz, sg, ps', ak', bl')) :
    ∀ n w i bu nd ps ak bl, pt_tree p M B bu ps ak bl → w ≤ 4096 → i ≤ w → 4096 < n + w → pt_fst (fun w => pt_un M B w p = true) w 4096 r →
      wX_nextHole_14 post n (nI w) (nI i) (nI p) b m bu nd mk ft fl lo sz sg ps ak bl := by
  have hp := T.1
  intro n
  induction n with
  | zero => intro w i bu nd ps ak bl _ h1 _ h3; omega
  | succ n ih =>
    intro w i bu nd ps ak bl Tr h1 h2 h3 hr
    by_cases hw : w = 4096
    · subst hw
      have e := pt_fst_end hr (Nat.le_refl _)
      subst e
      have z : post (-8) (nI p, b, m, bu, nd, mk, ft, fl, lo, sz, sg, ps, ak, bl) := K bu nd ps ak bl Tr
      exact br_c (fun _ => z) (fun _ => br_t (nI_lt (a := 4095) (by omega) (by omega)) z)
    · obtain ⟨r', hr'⟩ := pt_fst_ex (fun i => w &&& M i = B i) p p 0 (by omega)
      refine br_f (nI_nlt (a := 4095) (by omega) (by omega)) (br_f (nI_nlt (a := 4095) (by omega) (by omega)) ?_)
      refine pt_xlook T Tr (by omega) hr' (fun bu' nd' ps' ak' bl' Tr' => ?_)
      have hu := pt_fst_un hp hr'
      rcases hr' with ⟨e, hno⟩ | ⟨q, e, _, hq, hcv, _⟩
      · have e2 := pt_fst_hit hr (by omega) (hu.mp e)
        subst e
        subst e2
        exact br_f (by decide) (K bu' nd' ps' ak' bl' Tr')
      · subst e
        have hin : vp_in (nI q) 16 := vp_in_nI (by omega) (by omega)
        have em : mk (nI q).toNatClampNeg = nI (M q) := by rw [nI_clamp (by omega), T.2.2.2.1 q]
        have nun : ∀ v, v &&& M q = B q → ¬ pt_un M B v p = true := fun v hv z => (pt_un_iff M B v p).mp z q hq hv
        refine br_t (nI_pos' (by omega)) (And.intro hin (And.intro hin ?_))
        rw [em]
        rcases pt_low (M q) (T.2.1 q) with hz | ⟨hlw, ht, hm⟩
        · rw [hz]
          refine nm_r (e' := 0) (by decide) (br_t rfl (nm_r (nI_1 i) (ih 4096 (i + 1) bu' nd' ps' ak' bl' Tr' (by omega) (by omega) (by omega) ?_)))
          refine pt_fst_skip hr (by omega) (fun v _ _ => nun v ?_)
          rw [hz, Nat.and_zero] at hcv ⊢
          exact hcv
        · generalize pt_tz 12 (M q) = t at hlw ht hm
          have h2t : (2 : Nat) ^ t ≤ 2048 := pt_pw (c := 11) (by omega)
          have h2p := Nat.two_pow_pos t
          have hw2 : (w / 2 ^ t + 1) * 2 ^ t ≤ 4096 := by
            have e1 : (4096 : Nat) = 2 ^ (12 - t) * 2 ^ t := by rw [← Nat.pow_add, show 12 - t + t = 12 by omega]
            have e2 : w / 2 ^ t < 2 ^ (12 - t) := Nat.div_lt_of_lt_mul (by rw [Nat.mul_comm, ← e1]; omega)
            rw [e1]
            exact Nat.mul_le_mul_right _ e2
          have hw3 : w < (w / 2 ^ t + 1) * 2 ^ t := by
            have e1 := Nat.div_add_mod w (2 ^ t)
            have e2 := Nat.mod_lt w h2p
            rw [Nat.add_mul, Nat.one_mul, Nat.mul_comm]
            omega
          have ex : (nI w ||| (nI (2 ^ t) - 1)) + 1 = nI ((w / 2 ^ t + 1) * 2 ^ t) := by
            rw [pt_n1 h2p, pt_or, nI_1, pt_fil]
          refine nm_r hlw (br_f (nI_ne0 h2p (by omega)) (nm_r ex (nm_r (nI_1 i) (ih _ (i + 1) bu' nd' ps' ak' bl' Tr' hw2 (by omega) (by omega) ?_))))
          exact pt_fst_skip hr (by omega) (fun v g1 g2 => nun v (pt_nh hcv hm g1 g2))
/-! how many words below x a pattern covers -/
theorem pt_xc9 (T : pt_tab p M B mk ft) {i x : Nat} (hi : i < p) (hx : x ≤ 4096) {post : Int32 → Prop} (K : post (nI (pt_C (M i) (B i) x))) :
    ∀ d n, d ≤ 13 → d < n → x / 2 ^ d &&& M i / 2 ^ d = B i / 2 ^ d → wX_coveredBelow_9 post (nI i) (nI x) (nI p) b m bu nd mk ft fl lo sz sg ps ak bl n (nI (pt_C (M i) (B i) (x / 2 ^ d * 2 ^ d))) 1 (nI d + (-1)) := by
  have hp := T.1
  have hin : vp_in (nI i) 16 := vp_in_nI (by omega) (by omega)
  have hM := T.2.1 i
  have hB := T.2.2.1 i
  have hBl := pt_Bl T i
  have em : mk (nI i).toNatClampNeg = nI (M i) := by rw [nI_clamp (by omega), T.2.2.2.1 i]
  intro d
  induction d with
  | zero =>
    intro n hd hn ha
    obtain ⟨n, rfl⟩ := pt_suc hn
    rw [Nat.pow_zero, Nat.div_one, Nat.mul_one]
    exact br_t (by decide) K
  | succ d ih =>
    intro n hd hn ha
    obtain ⟨n, rfl⟩ := pt_suc hn
    rw [pk_m1]
    have bm := pt_mkb T (i := i) (e := d) (by omega) (by omega)
    have bf := pt_ftb T (i := i) (e := d) (by omega) (by omega)
    have bx := pt_bit (x := x) (b := d) (by omega) (by omega)
    have stop : ∀ S z, ¬ (x / 2 ^ d &&& M i / 2 ^ d = B i / 2 ^ d) ∨ x = x / 2 ^ d * 2 ^ d → S = pt_C (M i) (B i) (x / 2 ^ d * 2 ^ d) → wX_coveredBelow_9 post (nI i) (nI x) (nI p) b m bu nd mk ft fl lo sz sg ps ak bl n (nI S) 0 z := by
      intro S z h hS
      obtain ⟨n, rfl⟩ : ∃ k, n = k + 1 := ⟨n - 1, by omega⟩
      have e : pt_C (M i) (B i) x = pt_C (M i) (B i) (x / 2 ^ d * 2 ^ d) := by
        rcases h with h | h
        · exact pt_C_dis h
        · exact congrArg _ h
      rw [hS, ← e]
      exact br_c (fun _ => K) (fun _ => br_t rfl K)
    -- the end of a turn: fx is the mask's bit, or 1 in the topmost place
    have fin : ∀ fx : Nat, fx < 2 → (d < 12 → fx = M i / 2 ^ d % 2) → (d = 12 → fx = 1) → ∀ S, S = pt_C (M i) (B i) (x / 2 ^ d * 2 ^ d) →
        wX_coveredBelow_103 post (wX_coveredBelow_9 post (nI i) (nI x) (nI p) b m bu nd mk ft fl lo sz sg ps ak bl n) (nI i) (nI x) (nI S) (nI d) (nI fx) (nI (B i / 2 ^ d % 2)) (nI (x / 2 ^ d % 2)) (nI p) b m bu nd mk ft fl lo sz sg ps ak bl := by
      intro fx h2 hf hf2 S hS
      have hx2 : x / 2 ^ d % 2 < 2 := Nat.mod_lt _ (by omega)
      have hb2 : B i / 2 ^ d % 2 < 2 := Nat.mod_lt _ (by omega)
      unfold wX_coveredBelow_103
      by_cases c : d = 12
      · have hf3 := hf2 c
        subst hf3
        refine br_f (by decide) ?_
        have hbz : B i / 2 ^ d = 0 := by rw [c]; exact Nat.div_eq_of_lt hBl
        have hmz : M i / 2 ^ d = 0 := by rw [c]; exact Nat.div_eq_of_lt hM
        by_cases e : B i / 2 ^ d % 2 = x / 2 ^ d % 2
        · refine br_t (by rw [e]) (nm_e ?_)
          rw [hS]
          exact ih n (by omega) (by omega) (by rw [hbz, hmz, Nat.and_zero])
        · refine br_f (by rw [nI_eq (by omega) (by omega)]; exact e) (nm_e (stop S _ (Or.inr ?_) hS))
          subst c
          rw [hbz] at e
          omega
      · have hf3 := hf (by omega)
        have sp := pt_spl1 d x (M i) (B i)
        by_cases z : fx = 0
        · refine br_t (by rw [z]; rfl) (nm_e ?_)
          rw [hS]
          refine ih n (by omega) (by omega) (sp.mpr ⟨ha, ?_⟩)
          rw [← hf3, z, Nat.and_zero, pt_bm0 hB (by omega)]
        · have z1 : fx = 1 := by omega
          refine br_f (nI_ne0 (by omega) (by omega)) ?_
          by_cases e : B i / 2 ^ d % 2 = x / 2 ^ d % 2
          · refine br_t (by rw [e]) (nm_e ?_)
            rw [hS]
            refine ih n (by omega) (by omega) (sp.mpr ⟨ha, ?_⟩)
            rw [← hf3, z1, Nat.and_one_is_mod]
            omega
          · refine br_f (by rw [nI_eq (by omega) (by omega)]; exact e) (nm_e (stop S _ (Or.inl (fun q => e ?_)) hS))
            have q2 := (sp.mp q).2
            rw [← hf3, z1, Nat.and_one_is_mod] at q2
            omega
    have mid : ∀ fx : Nat, fx < 2 → (d < 12 → fx = M i / 2 ^ d % 2) → (d = 12 → fx = 1) →
        wX_coveredBelow_63 post (wX_coveredBelow_9 post (nI i) (nI x) (nI p) b m bu nd mk ft fl lo sz sg ps ak bl n) (nI i) (nI x) (nI (pt_C (M i) (B i) (x / 2 ^ (d + 1) * 2 ^ (d + 1)))) (nI d) (nI fx) (nI (B i / 2 ^ d % 2)) (nI (x / 2 ^ d % 2)) (nI p) b m bu nd mk ft fl lo sz sg ps ak bl := by
      intro fx h2 hf hf2
      have hx2 : x / 2 ^ d % 2 < 2 := Nat.mod_lt _ (by omega)
      have hb2 : B i / 2 ^ d % 2 < 2 := Nat.mod_lt _ (by omega)
      unfold wX_coveredBelow_63
      by_cases h : x / 2 ^ d % 2 = 1
      · have cone := pt_C_one hB ha h
        refine br_t (by rw [h]; rfl) ?_
        have add : B i / 2 ^ d % 2 = 0 → wX_coveredBelow_79 post (wX_coveredBelow_9 post (nI i) (nI x) (nI p) b m bu nd mk ft fl lo sz sg ps ak bl n) (nI i) (nI x) (nI (pt_C (M i) (B i) (x / 2 ^ (d + 1) * 2 ^ (d + 1)))) (nI d) (nI fx) (nI (B i / 2 ^ d % 2)) (nI (x / 2 ^ d % 2)) (nI p) b m bu nd mk ft fl lo sz sg ps ak bl := by
          intro hz
          rw [if_pos hz] at cone
          have ho := pt_on_le (M i) d
          have ea : (mk (nI i).toNatClampNeg) &&& (((1 : Int32) <<< (nI d &&& 31)) - 1) = nI (M i % 2 ^ d) := by
            rw [em, pt_msk (by omega), nx_and, Nat.and_two_pow_sub_one_eq_mod]
          have eo : pt_on (M i % 2 ^ d) 12 = pt_on (M i) d := by
            have := pt_on_hi (M i) d (12 - d)
            rw [show d + (12 - d) = 12 by omega] at this
            exact this
          have hm : M i % 2 ^ d ≤ M i := Nat.mod_le _ _
          unfold wX_coveredBelow_79
          refine And.intro hin ?_
          rw [ea]
          refine pt_xones (by omega) ?_
          rw [eo]
          have es : nI (pt_C (M i) (B i) (x / 2 ^ (d + 1) * 2 ^ (d + 1))) + ((1 : Int32) <<< ((nI d - nI (pt_on (M i) d)) &&& 31)) = nI (pt_C (M i) (B i) (x / 2 ^ d * 2 ^ d)) := by
            rw [pk_sub ho, pt_sh1 (by omega), nI_add, cone]
          exact nm_r es (fin fx h2 hf hf2 _ rfl)
        by_cases z : fx = 0
        · refine br_t (by rw [z]; rfl) (add ?_)
          have hd12 : d < 12 := by
            by_cases c : d = 12
            · have := hf2 c; omega
            · omega
          exact pt_bm0 hB (by rw [← hf hd12]; exact z)
        · refine br_f (nI_ne0 (by omega) (by omega)) ?_
          by_cases y : B i / 2 ^ d % 2 = 0
          · exact br_t (by rw [y]; rfl) (add y)
          · rw [if_neg y, Nat.add_zero] at cone
            exact br_f (nI_ne0 (by omega) (by omega)) (fin fx h2 hf hf2 _ cone.symm)
      · refine br_f (fun q => h ((nI_eq (b := 1) (by omega) (by omega)).mp q)) (fin fx h2 hf hf2 _ (pt_C_nil (by omega)).symm)
    refine br_f (nI_pos (by omega)) (br_f (by decide) (And.intro hin (nm_r bm (And.intro hin (nm_r bf (nm_r bx ?_))))))
    have hm2 : M i / 2 ^ d % 2 < 2 := Nat.mod_lt _ (by omega)
    by_cases c : d = 12
    · exact br_t (by rw [c]; rfl) (mid 1 (by omega) (fun z => by omega) (fun _ => rfl))
    · exact br_f (fun q => c ((nI_eq (b := 12) (by omega) (by omega)).mp q)) (mid _ hm2 (fun _ => rfl) (fun z => by omega))
theorem pt_xcb (T : pt_tab p M B mk ft) {i x : Nat} (hi : i < p) (hx : x ≤ 4096) {post : Int32 → Prop} (K : post (nI (pt_C (M i) (B i) x))) :
    wpX_coveredBelow post (nI p, b, m, bu, nd, mk, ft, fl, lo, sz, sg, ps, ak, bl) (nI i) (nI x) := by
  have hM := T.2.1 i
  have hBl := pt_Bl T i
  have z : ∀ y, y ≤ 4096 → y / 2 ^ 13 = 0 := fun y hy => Nat.div_eq_of_lt (by omega)
  have h := pt_xc9 (b := b) (m := m) (bu := bu) (nd := nd) (fl := fl) (lo := lo) (sz := sz) (sg := sg) (ps := ps) (ak := ak) (bl := bl) T hi hx K 13 14 (by omega) (by omega) (by rw [z x hx, z (M i) (by omega), z (B i) (by omega)]; rfl)
  rw [z x hx, Nat.zero_mul] at h
  exact ⟨14, h⟩
/-! the next word of a pattern -/
theorem pt_abI : ∀ c, c < 12 → (4095 : Int32) &&& ((((2 : Int32) <<< (nI c &&& 31)) - 1) ^^^ (-1)) = nI (4096 - 2 ^ (c + 1)) := by decide +kernel
theorem pt_xnw49 {f Mi Bi : Nat} (hf : f < 4096) (hM : Mi < 4096) (hB : Bi &&& Mi = Bi) (hnc : ¬ (f &&& Mi = Bi)) {post : Int32 → Prop}
    (K : ∀ r, pt_fst (fun w => w &&& Mi = Bi) f 4096 r → post r) :
    ∀ d c n, c + d = 12 → d < n → (∀ e, e < c → ¬ pt_nwc Mi Bi f e) → wX_nextWord_49 post (nI f) (nI Mi) (nI Bi) (nI p) b m bu nd mk ft fl lo sz sg ps ak bl n (nI c) := by
  have hBl : Bi < 4096 := by
    have h2 : Bi &&& Mi ≤ Mi := Nat.and_le_right
    rw [hB] at h2
    omega
  intro d
  induction d with
  | zero =>
    intro c n hc hn hl
    obtain ⟨n, rfl⟩ := pt_suc hn
    exact br_t (nI_le (a := 12) (by omega) (by omega)) (K _ (pt_nw_none hnc (fun e he => hl e (by omega))))
  | succ d ih =>
    intro c n hc hn hl
    obtain ⟨n, rfl⟩ := pt_suc hn
    have h2c : (2 : Nat) ^ (c + 1) ≤ 4096 := pt_pw (c := 12) (by omega)
    have hfM : f &&& Mi ≤ f := Nat.and_le_left
    have next : ¬ pt_nwc Mi Bi f c → wX_nextWord_49 post (nI f) (nI Mi) (nI Bi) (nI p) b m bu nd mk ft fl lo sz sg ps ak bl n (nI (c + 1)) := by
      intro nc
      refine ih (c + 1) n (by omega) (by omega) (fun e he => ?_)
      by_cases q : e = c
      · rw [q]; exact nc
      · exact hl e (by omega)
    have bf := pt_bit (x := f) (b := c) (by omega) (by omega)
    have bM := pt_bit (x := Mi) (b := c) (by omega) (by omega)
    have bB := pt_bit (x := Bi) (b := c) (by omega) (by omega)
    have f2 : f / 2 ^ c % 2 < 2 := Nat.mod_lt _ (by omega)
    have M2 : Mi / 2 ^ c % 2 < 2 := Nat.mod_lt _ (by omega)
    have B2 : Bi / 2 ^ c % 2 < 2 := Nat.mod_lt _ (by omega)
    have agr : ((nI f &&& nI Mi) &&& nI (4096 - 2 ^ (c + 1)) = nI Bi &&& nI (4096 - 2 ^ (c + 1))) ↔ f / 2 ^ (c + 1) &&& Mi / 2 ^ (c + 1) = Bi / 2 ^ (c + 1) := by
      have hd1 : (f &&& Mi) / 2 ^ (c + 1) * 2 ^ (c + 1) ≤ f &&& Mi := Nat.div_mul_le_self _ _
      have hd2 : Bi / 2 ^ (c + 1) * 2 ^ (c + 1) ≤ Bi := Nat.div_mul_le_self _ _
      rw [nx_and, nx_and, nx_and, pt_abv (by omega) (by omega), pt_abv hBl (by omega), nI_eq (by omega) (by omega), ← Nat.and_div_two_pow]
      exact ⟨fun z => Nat.eq_of_mul_eq_mul_right (Nat.two_pow_pos (c + 1)) z, fun z => by rw [z]⟩
    have ok : pt_nwc Mi Bi f c → post (((nI f &&& nI (4096 - 2 ^ (c + 1))) ||| ((1 : Int32) <<< (nI c &&& 31))) ||| (nI Bi &&& (((1 : Int32) <<< (nI c &&& 31)) - 1))) := by
      intro h
      have e : ((nI f &&& nI (4096 - 2 ^ (c + 1))) ||| ((1 : Int32) <<< (nI c &&& 31))) ||| (nI Bi &&& (((1 : Int32) <<< (nI c &&& 31)) - 1)) = nI (pt_nwr Bi f c) := by
        rw [pt_msk (by omega), pt_sh1 (by omega), nx_and, nx_and, Nat.and_two_pow_sub_one_eq_mod, pt_abv hf (by omega), pt_or, pt_or, pt_cmb _ _ _ (Nat.mod_lt _ (Nat.two_pow_pos c))]
        rfl
      rw [e]
      exact K _ (pt_nw_hit (by omega) hf hB hnc h hl)
    refine br_f (nI_ge (b := 12) (by omega) (by decide)) (nm_r (pt_abI c (by omega)) ?_)
    have free : (Mi / 2 ^ c % 2 = 0 ∨ Bi / 2 ^ c % 2 = 1) → wX_nextWord_90 post (wX_nextWord_49 post (nI f) (nI Mi) (nI Bi) (nI p) b m bu nd mk ft fl lo sz sg ps ak bl n) (nI f) (nI Mi) (nI Bi) (nI c) (nI (4096 - 2 ^ (c + 1))) (nI p) b m bu nd mk ft fl lo sz sg ps ak bl := by
      intro fr
      unfold wX_nextWord_90 wX_nextWord_95
      by_cases z : f / 2 ^ c % 2 = 0
      · refine br_t (by rw [bf, z]; rfl) (br_f (by decide) ?_)
        by_cases y : f / 2 ^ (c + 1) &&& Mi / 2 ^ (c + 1) = Bi / 2 ^ (c + 1)
        · exact br_t (agr.mpr y) (ok ⟨z, fr, y⟩)
        · exact br_f (fun q => y (agr.mp q)) (nm_r (nI_1 c) (next (fun q => y q.2.2)))
      · exact br_f (by rw [bf]; exact nI_ne0 (by omega) (by omega)) (nm_r (nI_1 c) (next (fun q => z q.1)))
    by_cases z : Mi / 2 ^ c % 2 = 0
    · exact br_t (by rw [bM, z]; rfl) (free (Or.inl z))
    · refine br_f (by rw [bM]; exact nI_ne0 (by omega) (by omega)) ?_
      by_cases y : Bi / 2 ^ c % 2 = 1
      · exact br_t (by rw [bB, y]; rfl) (free (Or.inr y))
      · refine br_f (by rw [bB]; exact fun q => y ((nI_eq (b := 1) (by omega) (by omega)).mp q)) ?_
        have nc : ¬ pt_nwc Mi Bi f c := by
          intro q
          rcases q.2.1 with q | q
          · exact z q
          · exact y q
        unfold wX_nextWord_95
        exact br_c (fun _ => br_t rfl (nm_r (nI_1 c) (next nc))) (fun _ => nm_r (nI_1 c) (next nc))
end
end
section
/-! the relation of the two states -/
def pt_inv (p : Nat) (b : Int32) (M B F L S : Nat → Nat) (mk ft fl lo sz : Nat → Int32) : Prop :=
  pt_tab p M B mk ft ∧ (∀ i, F i ≤ 3) ∧ (∀ i, fl i = nI (F i)) ∧ (∀ i, L i + S i ≤ 12) ∧ (∀ i, lo i = nI (L i)) ∧ (∀ i, sz i = nI (S i)) ∧ (∀ i j, j < F i → 1 ≤ S (i * 3 + j)) ∧ (b = -1 ∨ ∃ j, j < p ∧ b = nI j) ∧ (∀ j, j < p → ∀ i, i < j → ∀ w, w &&& M j = B j → ¬ (w &&& M i = B i))
def i_Rel (_ : Nat) (u : SX) (v : SY) : Prop :=
  ∃ (p : Nat) (b m bu nd : Int32) (mk ft fl lo sz sg ps ak bl : Nat → Int32) (M B F L S : Nat → Nat),
    u = (nI p, b, m, bu, nd, mk, ft, fl, lo, sz, sg, ps, ak, bl) ∧ v = (nI p, b, m, mk, ft, fl, lo, sz, sg) ∧ pt_inv p b M B F L S mk ft fl lo sz ∧ pt_tree p M B bu ps ak bl
theorem pt_mkR {k p : Nat} {b m bu nd : Int32} {mk ft fl lo sz sg ps ak bl : Nat → Int32} {M B F L S : Nat → Nat} (J : pt_inv p b M B F L S mk ft fl lo sz) (Tr : pt_tree p M B bu ps ak bl) :
    i_Rel k (nI p, b, m, bu, nd, mk, ft, fl, lo, sz, sg, ps, ak, bl) (nI p, b, m, mk, ft, fl, lo, sz, sg) :=
  ⟨p, b, m, bu, nd, mk, ft, fl, lo, sz, sg, ps, ak, bl, M, B, F, L, S, rfl, rfl, J, Tr⟩
theorem pt_el {k : Nat} {u : SX} {v : SY} (I : i_Rel k u v) {P : SX → SY → Prop}
    (h : ∀ (p : Nat) (b m bu nd : Int32) (mk ft fl lo sz sg ps ak bl : Nat → Int32) (M B F L S : Nat → Nat), pt_inv p b M B F L S mk ft fl lo sz → pt_tree p M B bu ps ak bl →
      P (nI p, b, m, bu, nd, mk, ft, fl, lo, sz, sg, ps, ak, bl) (nI p, b, m, mk, ft, fl, lo, sz, sg)) : P u v := by
  obtain ⟨p, b, m, bu, nd, mk, ft, fl, lo, sz, sg, ps, ak, bl, M, B, F, L, S, e1, e2, J, Tr⟩ := I
  rw [e1, e2]
  exact h p b m bu nd mk ft fl lo sz sg ps ak bl M B F L S J Tr
theorem i_up {k : Nat} {u : SX} {v : SY} (h : i_Rel k u v) : i_Rel (k + 5) u v := h
theorem pt_inv0 : pt_inv 0 (-1) (fun _ => 0) (fun _ => 0) (fun _ => 0) (fun _ => 0) (fun _ => 0) (fun _ => 0) (fun _ => 0) (fun _ => 0) (fun _ => 0) (fun _ => 0) :=
  ⟨⟨by omega, fun _ => (by decide : (0 : Nat) < 4096), fun _ => Nat.zero_and 0, fun _ => rfl, fun _ => rfl⟩, fun _ => (by decide : (0 : Nat) ≤ 3), fun _ => rfl, fun _ => (by decide : (0 : Nat) + 0 ≤ 12), fun _ => rfl, fun _ => rfl, fun i j (h : j < 0) => absurd h (by omega), Or.inl rfl, fun j hj => absurd hj (by omega)⟩
theorem i_vc0 : wpX_init (fun u => wpY_init (fun v => i_Rel 0 u v)) := by
  unfold wpX_init wpY_init
  exact pt_mkR pt_inv0 (Or.inl rfl)
def pt_up (f : Nat → Nat) (k x : Nat) : Nat → Nat := fun j => if j = k then x else f j
theorem pt_up_s {f : Nat → Nat} {k x : Nat} : pt_up f k x k = x := if_pos rfl
theorem pt_up_n {f : Nat → Nat} {k j x : Nat} (h : j ≠ k) : pt_up f k x j = f j := if_neg h
theorem pt_up_p {f : Nat → Nat} {k x : Nat} {P : Nat → Nat → Prop} (h : ∀ i, P i (f i)) (hk : P k x) : ∀ i, P i (pt_up f k x i) := by
  intro i
  by_cases e : i = k
  · rw [e, pt_up_s]; exact hk
  · rw [pt_up_n e]; exact h i
theorem pt_upI {g : Nat → Int32} {f : Nat → Nat} {k x : Nat} (h : ∀ i, g i = nI (f i)) : ∀ i, upd g k (nI x) i = nI (pt_up f k x i) := by
  intro i
  by_cases e : i = k
  · rw [e, pt_up_s, pk_us]
  · rw [pt_up_n e, pk_un e]; exact h i
theorem pt_andn (x y : Int32) : (x &&& (y ^^^ (-1))) = 0 ↔ x &&& y = x := by
  constructor
  · intro h
    apply b_ext
    intro i hi
    have e : bt (x &&& (y ^^^ (-1))) i = bt 0 i := by rw [h]
    rw [b_and, b_xor, b_m1 i hi, b_0] at e
    rw [b_and]
    revert e
    cases bt x i <;> cases bt y i <;> decide
  · intro h
    apply b_ext
    intro i hi
    have e : bt (x &&& y) i = bt x i := by rw [h]
    rw [b_and] at e
    rw [b_and, b_xor, b_m1 i hi, b_0]
    revert e
    cases bt x i <;> cases bt y i <;> decide
theorem pt_inv_b {p : Nat} {b b' : Int32} {M B F L S : Nat → Nat} {mk ft fl lo sz : Nat → Int32} (J : pt_inv p b M B F L S mk ft fl lo sz) (h : b' = -1 ∨ ∃ j, j < p ∧ b' = nI j) : pt_inv p b' M B F L S mk ft fl lo sz := by
  obtain ⟨j1, j2, j3, j4, j5, j6, j7, _, j9⟩ := J
  exact ⟨j1, j2, j3, j4, j5, j6, j7, h, j9⟩
/-- one pattern more -/
theorem pt_inv_add {p : Nat} {b : Int32} {M B F L S : Nat → Nat} {mk ft fl lo sz : Nat → Int32} (J : pt_inv p b M B F L S mk ft fl lo sz) (hp : p < 16) {a c : Nat} (ha : a < 4096) (hc : c &&& a = c) (hn : ∀ i, i < p → ¬ (((c ^^^ B i) &&& a) &&& M i = 0)) :
    pt_inv (p + 1) b (pt_up M p a) (pt_up B p c) (pt_up F p 0) L S (upd mk p (nI a)) (upd ft p (nI c)) (upd fl p (nI 0)) lo sz := by
  obtain ⟨⟨_, t2, t3, t4, t5⟩, j2, j3, j4, j5, j6, j7, j8, j9⟩ := J
  refine ⟨⟨by omega, pt_up_p (P := fun _ x => x < 4096) t2 ha, ?_, pt_upI t4, pt_upI t5⟩, pt_up_p (P := fun _ x => x ≤ 3) j2 (by omega), pt_upI j3, j4, j5, j6, ?_, ?_, ?_⟩
  · intro i
    by_cases e : i = p
    · rw [e, pt_up_s, pt_up_s]; exact hc
    · rw [pt_up_n e, pt_up_n e]; exact t3 i
  · intro i j hj
    by_cases e : i = p
    · rw [e, pt_up_s] at hj; omega
    · rw [pt_up_n e] at hj; exact j7 i j hj
  · rcases j8 with h | ⟨j, h1, h2⟩
    · exact Or.inl h
    · exact Or.inr ⟨j, by omega, h2⟩
  · intro j hj i hi w h1 h2
    rw [pt_up_n (by omega), pt_up_n (by omega)] at h2
    by_cases e : j = p
    · rw [e, pt_up_s, pt_up_s] at h1
      exact hn i (by omega) (pt_ov1 h1 h2)
    · rw [pt_up_n e, pt_up_n e] at h1
      exact j9 j (by omega) i hi w h1 h2
/-- one pattern less -/
theorem pt_inv_drop {p : Nat} {b b' : Int32} {M B F L S : Nat → Nat} {mk ft fl lo sz : Nat → Int32} (J : pt_inv (p + 1) b M B F L S mk ft fl lo sz) (h : b' = -1 ∨ ∃ j, j < p ∧ b' = nI j) : pt_inv p b' M B F L S mk ft fl lo sz := by
  obtain ⟨⟨t1, t2, t3, t4, t5⟩, j2, j3, j4, j5, j6, j7, _, j9⟩ := J
  exact ⟨⟨by omega, t2, t3, t4, t5⟩, j2, j3, j4, j5, j6, j7, h, fun j hj => j9 j (by omega)⟩
/-- one field more -/
theorem pt_inv_field {p : Nat} {b : Int32} {M B F L S : Nat → Nat} {mk ft fl lo sz : Nat → Int32} (J : pt_inv p b M B F L S mk ft fl lo sz) {i l s : Nat} (hF : F i < 3) (h1 : 1 ≤ s) (hls : l + s ≤ 12) :
    pt_inv p b M B (pt_up F i (F i + 1)) (pt_up L (i * 3 + F i) l) (pt_up S (i * 3 + F i) s) mk ft (upd fl i (nI (F i + 1))) (upd lo (i * 3 + F i) (nI l)) (upd sz (i * 3 + F i) (nI s)) := by
  obtain ⟨t, j2, j3, j4, j5, j6, j7, j8, j9⟩ := J
  refine ⟨t, pt_up_p (P := fun _ x => x ≤ 3) j2 (by omega), pt_upI j3, ?_, pt_upI j5, pt_upI j6, ?_, j8, j9⟩
  · intro q
    by_cases e : q = i * 3 + F i
    · rw [e, pt_up_s, pt_up_s]; exact hls
    · rw [pt_up_n e, pt_up_n e]; exact j4 q
  · intro q j hj
    by_cases e : q * 3 + j = i * 3 + F i
    · rw [e, pt_up_s]; exact h1
    · rw [pt_up_n e]
      by_cases e2 : q = i
      · subst e2
        rw [pt_up_s] at hj
        exact j7 q j (by omega)
      · rw [pt_up_n e2] at hj
        exact j7 q j hj
end
section
/-! decode, holes, nextHole, covered, nextWord, begin, dropLast -/
theorem i_vc_decode {k : Nat} {u : SX} {v : SY} (I : i_Rel k u v) (hk : k + 5 ≤ 2560) (v1 : Int32) : wpX_decode (fun r u' => wpY_decode (fun r' => r' = r ∧ i_Rel (k + 5) u' v) v v1) u v1 := by
  refine pt_el (P := fun u v => wpX_decode (fun r u' => wpY_decode (fun r' => r' = r ∧ i_Rel (k + 5) u' v) v v1) u v1) I ?_
  intro p b m bu nd mk ft fl lo sz sg ps ak bl M B F L S J Tr
  unfold wpX_decode
  rcases pk_ix v1 (n := 4096) (by omega) with h | h | ⟨w, hw, rfl⟩
  · exact pt_xbw1 (Or.inl h) (br_f (by decide) (pt_ydecB (Or.inl h) ⟨rfl, pt_mkR J Tr⟩))
  · exact pt_xbw1 (Or.inr h) (br_f (by decide) (pt_ydecB (Or.inr h) ⟨rfl, pt_mkR J Tr⟩))
  · obtain ⟨r, hr⟩ := pt_fst_ex (fun i => w &&& M i = B i) p p 0 (by omega)
    refine pt_xbw0 hw (br_t rfl ?_)
    refine pt_xlook J.1 Tr hw hr (fun bu' nd' ps' ak' bl' Tr' => ?_)
    exact pt_ydec J.1 hw hr ⟨rfl, pt_mkR J Tr'⟩
theorem i_vc_holes {k : Nat} {u : SX} {v : SY} (I : i_Rel k u v) (hk : k + 5 ≤ 2560) : wpX_holes (fun r => wpY_holes (fun r' => r' = r ∧ i_Rel (k + 5) u v) v) u := by
  refine pt_el (P := fun u v => wpX_holes (fun r => wpY_holes (fun r' => r' = r ∧ i_Rel (k + 5) u v) v) u) I ?_
  intro p b m bu nd mk ft fl lo sz sg ps ak bl M B F L S J Tr
  refine pt_xholes J.1 J.2.2.2.2.2.2.2.2 ?_
  refine ⟨4097, ?_⟩
  exact pt_yh4 J.1 ⟨rfl, pt_mkR J Tr⟩ 4096 0 4097 (by omega) (by omega)
theorem i_vc_nextHole {k : Nat} {u : SX} {v : SY} (I : i_Rel k u v) (hk : k + 5 ≤ 2560) (v1 : Int32) : wpX_nextHole (fun r u' => wpY_nextHole (fun r' => r' = r ∧ i_Rel (k + 5) u' v) v v1) u v1 := by
  refine pt_el (P := fun u v => wpX_nextHole (fun r u' => wpY_nextHole (fun r' => r' = r ∧ i_Rel (k + 5) u' v) v v1) u v1) I ?_
  intro p b m bu nd mk ft fl lo sz sg ps ak bl M B F L S J Tr
  unfold wpX_nextHole
  rcases pk_ix v1 (n := 4096) (by omega) with h | h | ⟨w, hw, rfl⟩
  · refine pt_xbw1 (Or.inl h) (br_f (by decide) ?_)
    unfold wpY_nextHole
    exact pt_yw0 (Or.inl h) (br_t rfl ⟨rfl, pt_mkR J Tr⟩)
  · refine pt_xbw1 (Or.inr h) (br_f (by decide) ?_)
    unfold wpY_nextHole
    exact pt_yw0 (Or.inr h) (br_t rfl ⟨rfl, pt_mkR J Tr⟩)
  · obtain ⟨r, hr⟩ := pt_fst_ex (fun w => pt_un M B w p = true) 4096 (4096 - w) w (by omega)
    refine pt_xbw0 hw (br_t rfl ⟨4097, ?_⟩)
    refine pt_xnh14 J.1 (r := r) (fun bu' nd' ps' ak' bl' Tr' => ?_) 4097 w 0 bu nd ps ak bl Tr (by omega) (by omega) (by omega) hr
    unfold wpY_nextHole
    exact pt_yw1 hw (br_f (by decide) ⟨4097, pt_ynh13 J.1 ⟨rfl, pt_mkR J Tr'⟩ (4096 - w) w 4097 (by omega) (by omega) hr⟩)
theorem i_vc_covered {k : Nat} {u : SX} {v : SY} (I : i_Rel k u v) (hk : k + 5 ≤ 2560) (v1 : Int32) (v2 : Int32) (v3 : Int32) : wpX_covered (fun r => wpY_covered (fun r' => r' = r ∧ i_Rel (k + 5) u v) v v1 v2 v3) u v1 v2 v3 := by
  refine pt_el (P := fun u v => wpX_covered (fun r => wpY_covered (fun r' => r' = r ∧ i_Rel (k + 5) u v) v v1 v2 v3) u v1 v2 v3) I ?_
  intro p b m bu nd mk ft fl lo sz sg ps ak bl M B F L S J Tr
  have hp := J.1.1
  have bad1 : (v1 < 0 ∨ nI p ≤ v1) → wpX_covered (fun r => wpY_covered (fun r' => r' = r ∧ i_Rel (k + 5) (nI p, b, m, bu, nd, mk, ft, fl, lo, sz, sg, ps, ak, bl) (nI p, b, m, mk, ft, fl, lo, sz, sg)) (nI p, b, m, mk, ft, fl, lo, sz, sg) v1 v2 v3) (nI p, b, m, bu, nd, mk, ft, fl, lo, sz, sg, ps, ak, bl) v1 v2 v3 := by
    intro h
    unfold wpX_covered
    refine pt_xnp1 h (br_f (by decide) ?_)
    unfold wpY_covered
    exact pt_yip0 h (br_t rfl ⟨rfl, pt_mkR J Tr⟩)
  rcases pk_ix v1 (n := p) (by omega) with h | h | ⟨i, hi, rfl⟩
  · exact bad1 (Or.inl h)
  · exact bad1 (Or.inr h)
  have bad2 : (v2 < 0 ∨ nI 4096 ≤ v2) → wpX_covered (fun r => wpY_covered (fun r' => r' = r ∧ i_Rel (k + 5) (nI p, b, m, bu, nd, mk, ft, fl, lo, sz, sg, ps, ak, bl) (nI p, b, m, mk, ft, fl, lo, sz, sg)) (nI p, b, m, mk, ft, fl, lo, sz, sg) (nI i) v2 v3) (nI p, b, m, bu, nd, mk, ft, fl, lo, sz, sg, ps, ak, bl) (nI i) v2 v3 := by
    intro h
    unfold wpX_covered
    refine pt_xnp0 hp hi (br_t rfl (pt_xbw1 h (br_f (by decide) ?_)))
    unfold wpY_covered
    exact pt_yip1 hp hi (br_f (by decide) (pt_yw0 h (br_t rfl ⟨rfl, pt_mkR J Tr⟩)))
  rcases pk_ix v2 (n := 4096) (by omega) with h | h | ⟨f, hf, rfl⟩
  · exact bad2 (Or.inl h)
  · exact bad2 (Or.inr h)
  have bad3 : (v3 < 0 ∨ nI 4096 ≤ v3) → wpX_covered (fun r => wpY_covered (fun r' => r' = r ∧ i_Rel (k + 5) (nI p, b, m, bu, nd, mk, ft, fl, lo, sz, sg, ps, ak, bl) (nI p, b, m, mk, ft, fl, lo, sz, sg)) (nI p, b, m, mk, ft, fl, lo, sz, sg) (nI i) (nI f) v3) (nI p, b, m, bu, nd, mk, ft, fl, lo, sz, sg, ps, ak, bl) (nI i) (nI f) v3 := by
    intro h
    unfold wpX_covered
    refine pt_xnp0 hp hi (br_t rfl (pt_xbw0 hf (br_t rfl (pt_xbw1 h (br_f (by decide) ?_)))))
    unfold wpY_covered
    exact pt_yip1 hp hi (br_f (by decide) (pt_yw1 hf (br_f (by decide) (pt_yw0 h (br_t rfl ⟨rfl, pt_mkR J Tr⟩)))))
  rcases pk_ix v3 (n := 4096) (by omega) with h | h | ⟨t, ht, rfl⟩
  · exact bad3 (Or.inl h)
  · exact bad3 (Or.inr h)
  unfold wpX_covered
  refine pt_xnp0 hp hi (br_t rfl (pt_xbw0 hf (br_t rfl (pt_xbw0 ht (br_t rfl ?_)))))
  refine pk_le f t (fun hft => ?_) (fun hft => ?_)
  · rw [nI_1]
    refine pt_xcb J.1 hi (by omega) ?_
    refine pt_xcb J.1 hi (by omega) ?_
    unfold wpY_covered
    refine pt_yip1 hp hi (br_f (by decide) (pt_yw1 hf (br_f (by decide) (pt_yw1 ht (br_f (by decide) (br_t (nI_le hft (by omega)) ⟨4097, ?_⟩))))))
    refine pt_yc43 J.1 hi ht (k0 := pt_C (M i) (B i) f) (fun q hq => ⟨?_, pt_mkR J Tr⟩) (t + 1 - f) f 4097 0 (by omega) (by omega) (by omega)
    rw [← hq, pk_sub (by omega), Nat.add_sub_cancel]
  · unfold wpY_covered
    exact pt_yip1 hp hi (br_f (by decide) (pt_yw1 hf (br_f (by decide) (pt_yw1 ht (br_f (by decide) (br_f (nI_ge hft (by omega)) ⟨rfl, pt_mkR J Tr⟩))))))
theorem i_vc_nextWord {k : Nat} {u : SX} {v : SY} (I : i_Rel k u v) (hk : k + 5 ≤ 2560) (v1 : Int32) (v2 : Int32) : wpX_nextWord (fun r => wpY_nextWord (fun r' => r' = r ∧ i_Rel (k + 5) u v) v v1 v2) u v1 v2 := by
  refine pt_el (P := fun u v => wpX_nextWord (fun r => wpY_nextWord (fun r' => r' = r ∧ i_Rel (k + 5) u v) v v1 v2) u v1 v2) I ?_
  intro p b m bu nd mk ft fl lo sz sg ps ak bl M B F L S J Tr
  have hp := J.1.1
  unfold wpX_nextWord
  have bad1 : (v1 < 0 ∨ nI p ≤ v1) → wpY_nextWord (fun r' => r' = -4 ∧ i_Rel (k + 5) (nI p, b, m, bu, nd, mk, ft, fl, lo, sz, sg, ps, ak, bl) (nI p, b, m, mk, ft, fl, lo, sz, sg)) (nI p, b, m, mk, ft, fl, lo, sz, sg) v1 v2 := by
    intro h
    unfold wpY_nextWord
    exact pt_yip0 h (br_t rfl ⟨rfl, pt_mkR J Tr⟩)
  rcases pk_ix v1 (n := p) (by omega) with h | h | ⟨i, hi, rfl⟩
  · exact pt_xnp1 (Or.inl h) (br_f (by decide) (bad1 (Or.inl h)))
  · exact pt_xnp1 (Or.inr h) (br_f (by decide) (bad1 (Or.inr h)))
  have bad2 : (v2 < 0 ∨ nI 4096 ≤ v2) → wpY_nextWord (fun r' => r' = -7 ∧ i_Rel (k + 5) (nI p, b, m, bu, nd, mk, ft, fl, lo, sz, sg, ps, ak, bl) (nI p, b, m, mk, ft, fl, lo, sz, sg)) (nI p, b, m, mk, ft, fl, lo, sz, sg) (nI i) v2 := by
    intro h
    unfold wpY_nextWord
    exact pt_yip1 hp hi (br_f (by decide) (pt_yw0 h (br_t rfl ⟨rfl, pt_mkR J Tr⟩)))
  rcases pk_ix v2 (n := 4096) (by omega) with h | h | ⟨f, hf, rfl⟩
  · exact pt_xnp0 hp hi (br_t rfl (pt_xbw1 (Or.inl h) (br_f (by decide) (bad2 (Or.inl h)))))
  · exact pt_xnp0 hp hi (br_t rfl (pt_xbw1 (Or.inr h) (br_f (by decide) (bad2 (Or.inr h)))))
  have good : ∀ r, pt_fst (fun w => w &&& M i = B i) f 4096 r → wpY_nextWord (fun r' => r' = r ∧ i_Rel (k + 5) (nI p, b, m, bu, nd, mk, ft, fl, lo, sz, sg, ps, ak, bl) (nI p, b, m, mk, ft, fl, lo, sz, sg)) (nI p, b, m, mk, ft, fl, lo, sz, sg) (nI i) (nI f) := by
    intro r hr
    unfold wpY_nextWord
    exact pt_yip1 hp hi (br_f (by decide) (pt_yw1 hf (br_f (by decide) ⟨4097, pt_ync24 J.1 hi ⟨rfl, pt_mkR J Tr⟩ (4096 - f) f 4097 (by omega) (by omega) hr⟩)))
  have hin : vp_in (nI i) 16 := vp_in_nI (by omega) (by omega)
  have em : mk (nI i).toNatClampNeg = nI (M i) := by rw [nI_clamp (by omega), J.1.2.2.2.1 i]
  have ef : ft (nI i).toNatClampNeg = nI (B i) := by rw [nI_clamp (by omega), J.1.2.2.2.2 i]
  have cv := pt_cvI J.1 (i := i) (w := f) (by omega) hf
  rw [em, ef] at cv
  refine pt_xnp0 hp hi (br_t rfl (pt_xbw0 hf (br_t rfl (And.intro hin (nm_r em (And.intro hin (nm_r ef ?_)))))))
  by_cases c : f &&& M i = B i
  · exact br_t (cv.mpr c) (good (nI f) (Or.inr ⟨f, rfl, Nat.le_refl f, hf, c, fun v h1 h2 => absurd h1 (by omega)⟩))
  · exact br_f (fun z => c (cv.mp z)) ⟨13, pt_xnw49 hf (J.1.2.1 i) (J.1.2.2.1 i) c good 12 0 13 (by omega) (by omega) (fun e he => absurd he (by omega))⟩
theorem i_vc_begin {k : Nat} {u : SX} {v : SY} (I : i_Rel k u v) (hk : k + 5 ≤ 2560) (v1 : Int32) : wpX_begin (fun r u' => wpY_begin (fun r' v' => r' = r ∧ i_Rel (k + 5) u' v') v v1) u v1 := by
  refine pt_el (P := fun u v => wpX_begin (fun r u' => wpY_begin (fun r' v' => r' = r ∧ i_Rel (k + 5) u' v') v v1) u v1) I ?_
  intro p b m bu nd mk ft fl lo sz sg ps ak bl M B F L S J Tr
  have hp := J.1.1
  unfold wpX_begin
  have bad1 : (v1 < 0 ∨ nI p ≤ v1) → wpY_begin (fun r' v' => r' = -4 ∧ i_Rel (k + 5) (nI p, b, m, bu, nd, mk, ft, fl, lo, sz, sg, ps, ak, bl) v') (nI p, b, m, mk, ft, fl, lo, sz, sg) v1 := by
    intro h
    unfold wpY_begin
    exact pt_yip0 h (br_t rfl ⟨rfl, pt_mkR J Tr⟩)
  rcases pk_ix v1 (n := p) (by omega) with h | h | ⟨i, hi, rfl⟩
  · exact pt_xnp1 (Or.inl h) (br_f (by decide) (bad1 (Or.inl h)))
  · exact pt_xnp1 (Or.inr h) (br_f (by decide) (bad1 (Or.inr h)))
  have hin : vp_in (nI i) 16 := vp_in_nI (by omega) (by omega)
  refine pt_xnp0 hp hi (br_t rfl (And.intro hin (fun y ey => ?_)))
  unfold wpY_begin
  refine pt_yip1 hp hi (br_f (by decide) (And.intro hin (fun z ez => ?_)))
  have e : z = y := ez.trans ey.symm
  subst e
  exact ⟨rfl, pt_mkR (pt_inv_b J (Or.inr ⟨i, hi, rfl⟩)) Tr⟩
theorem i_vc_dropLast {k : Nat} {u : SX} {v : SY} (I : i_Rel k u v) (hk : k + 5 ≤ 2560) : wpX_dropLast (fun r u' => wpY_dropLast (fun r' v' => r' = r ∧ i_Rel (k + 5) u' v') v) u := by
  refine pt_el (P := fun u v => wpX_dropLast (fun r u' => wpY_dropLast (fun r' v' => r' = r ∧ i_Rel (k + 5) u' v') v) u) I ?_
  intro p b m bu nd mk ft fl lo sz sg ps ak bl M B F L S J Tr
  have hp := J.1.1
  cases p with
  | zero => exact br_t rfl (br_t rfl ⟨rfl, pt_mkR J Tr⟩)
  | succ p =>
    have h0 : ¬ nI (p + 1) = 0 := nI_ne0 (by omega) (by omega)
    refine br_f h0 (nm_r (nI_pred p) ?_)
    by_cases c : b = nI p
    · refine br_t c (br_f h0 (nm_r (nI_pred p) (br_t c ⟨rfl, pt_mkR (pt_inv_drop J (Or.inl rfl)) (Or.inl rfl)⟩)))
    · refine br_f c (br_f h0 (nm_r (nI_pred p) (br_f c ⟨rfl, pt_mkR (pt_inv_drop J ?_) (Or.inl rfl)⟩)))
      rcases J.2.2.2.2.2.2.2.1 with h | ⟨j, h1, h2⟩
      · exact Or.inl h
      · refine Or.inr ⟨j, ?_, h2⟩
        by_cases e : j = p
        · rw [e] at h2; exact absurd h2 c
        · omega
end
section
section
variable {p : Nat} {M B F L S : Nat → Nat} {b m bu nd : Int32} {mk ft fl lo sz sg ps ak bl : Nat → Int32}
/-! add -/
theorem pt_xa46 (T : pt_tab p M B mk ft) (hp : p < 16) {a c : Nat} (ha : a < 4096) (hc : c < 4096) {post : Int32 → SX → Prop}
    (K1 : (∃ i, i < p ∧ ((c ^^^ B i) &&& a) &&& M i = 0) → post (-2) (nI p, b, m, bu, nd, mk, ft, fl, lo, sz, sg, ps, ak, bl))
    (K0 : (∀ i, i < p → ¬ (((c ^^^ B i) &&& a) &&& M i = 0)) → post (nI p) (nI (p + 1), b, m, 0, nd, upd mk p (nI a), upd ft p (nI c), upd fl p (nI 0), lo, sz, sg, ps, ak, bl)) :
    ∀ d i n, i + d = p → d < n → (∀ j, j < i → ¬ (((c ^^^ B j) &&& a) &&& M j = 0)) → wX_add_46 post (nI a) (nI c) (nI p) b m bu nd mk ft fl lo sz sg ps ak bl n (nI i) := by
  have hin : vp_in (nI p) 16 := vp_in_nI hp (by omega)
  have cp : (nI p).toNatClampNeg = p := nI_clamp (by omega)
  intro d
  induction d with
  | zero =>
    intro i n hi hn H
    obtain ⟨n, rfl⟩ := pt_suc hn
    refine br_t (nI_le (by omega) (by omega)) (And.intro hin (nm_r (e' := upd mk p (nI a)) (by rw [cp]) (And.intro hin (nm_r (e' := upd ft p (nI c)) (by rw [cp]) (And.intro hin (nm_r (e' := upd fl p (nI 0)) (by rw [cp]; rfl) (nm_r (nI_1 p) (K0 ?_))))))))
    intro j hj
    exact H j (by omega)
  | succ d ih =>
    intro i n hi hn H
    obtain ⟨n, rfl⟩ := pt_suc hn
    have hi6 : vp_in (nI i) 16 := vp_in_nI (by omega) (by omega)
    have ov : ((((nI c ^^^ (ft (nI i).toNatClampNeg)) &&& nI a) &&& (mk (nI i).toNatClampNeg)) = 0) ↔ ((c ^^^ B i) &&& a) &&& M i = 0 := by
      have h1 : ((c ^^^ B i) &&& a) &&& M i ≤ M i := Nat.and_le_right
      have h2 := T.2.1 i
      rw [nI_clamp (by omega), T.2.2.2.1 i, T.2.2.2.2 i, nx_xor, nx_and, nx_and, ← nI_0, nI_eq (by omega) (by omega)]
    refine br_f (nI_ge (by omega) (by omega)) (And.intro hi6 (And.intro hi6 ?_))
    by_cases z : ((c ^^^ B i) &&& a) &&& M i = 0
    · exact br_t (ov.mpr z) (K1 ⟨i, by omega, z⟩)
    · refine br_f (fun q => z (ov.mp q)) (nm_r (nI_1 i) (ih (i + 1) n (by omega) (by omega) (fun j hj => ?_)))
      by_cases e : j = i
      · rw [e]; exact z
      · exact H j (by omega)
theorem pt_ya40 (T : pt_tab p M B mk ft) (hp : p < 16) {a c : Nat} (ha : a < 4096) (hc : c < 4096) {post : Int32 → SY → Prop}
    (K1 : (∃ w i, w &&& a = c ∧ i < p ∧ w &&& M i = B i) → post (-2) (nI p, b, m, mk, ft, fl, lo, sz, sg))
    (K0 : (∀ w, w < 4096 → w &&& a = c → ∀ i, i < p → ¬ (w &&& M i = B i)) → post (nI p) (nI (p + 1), b, m, upd mk p (nI a), upd ft p (nI c), upd fl p (nI 0), lo, sz, sg)) :
    ∀ d w n, w + d = 4096 → d < n → (∀ w', w' < w → w' &&& a = c → ∀ i, i < p → ¬ (w' &&& M i = B i)) → wY_add_40 post (nI a) (nI c) (nI p) b m mk ft fl lo sz sg n (nI w) := by
  have hin : vp_in (nI p) 16 := vp_in_nI hp (by omega)
  have cp : (nI p).toNatClampNeg = p := nI_clamp (by omega)
  intro d
  induction d with
  | zero =>
    intro w n hw hn H
    obtain ⟨n, rfl⟩ := pt_suc hn
    refine br_t (nI_le (a := 4096) (by omega) (by omega)) (And.intro hin (nm_r (e' := upd mk p (nI a)) (by rw [cp]) (And.intro hin (nm_r (e' := upd ft p (nI c)) (by rw [cp]) (And.intro hin (nm_r (e' := upd fl p (nI 0)) (by rw [cp]; rfl) (nm_r (nI_1 p) ?_)))))))
    rw [nI_pred p]
    exact K0 (fun w' h => H w' (by omega))
  | succ d ih =>
    intro w n hw hn H
    obtain ⟨n, rfl⟩ := pt_suc hn
    have hcv : (nI w &&& nI a = nI c) ↔ w &&& a = c := by
      have h1 : w &&& a ≤ w := Nat.and_le_left
      rw [nx_and, nI_eq (by omega) (by omega)]
    have next : (w &&& a = c → ∀ i, i < p → ¬ (w &&& M i = B i)) → wY_add_40 post (nI a) (nI c) (nI p) b m mk ft fl lo sz sg n (nI (w + 1)) := by
      intro g
      refine ih (w + 1) n (by omega) (by omega) (fun w' h => ?_)
      by_cases e : w' = w
      · rw [e]; exact g
      · exact H w' (by omega)
    refine br_f (nI_ge (b := 4096) (by omega) (by decide)) ?_
    by_cases z : w &&& a = c
    · refine br_t (hcv.mpr z) ?_
      obtain ⟨r, hr⟩ := pt_fst_ex (fun i => w &&& M i = B i) p p 0 (by omega)
      refine pt_ydec T (by omega) hr ?_
      rcases hr with ⟨e, h⟩ | ⟨i, e, _, h2, h3, _⟩
      · subst e
        exact br_t (by decide) (nm_r (nI_1 w) (next (fun _ i hi => h i (by omega) hi)))
      · subst e
        exact br_f (nI_pos (by omega)) (K1 ⟨w, i, z, h2, h3⟩)
    · exact br_f (fun q => z (hcv.mp q)) (nm_r (nI_1 w) (next (fun q => absurd q z)))
end
theorem i_vc_add {k : Nat} {u : SX} {v : SY} (I : i_Rel k u v) (hk : k + 5 ≤ 2560) (v1 : Int32) (v2 : Int32) : wpX_add (fun r u' => wpY_add (fun r' v' => r' = r ∧ i_Rel (k + 5) u' v') v v1 v2) u v1 v2 := by
  refine pt_el (P := fun u v => wpX_add (fun r u' => wpY_add (fun r' v' => r' = r ∧ i_Rel (k + 5) u' v') v v1 v2) u v1 v2) I ?_
  intro p b m bu nd mk ft fl lo sz sg ps ak bl M B F L S J Tr
  have hp := J.1.1
  have bad1 : (v1 < 0 ∨ nI 4096 ≤ v1) → wpY_add (fun r' v' => r' = -1 ∧ i_Rel (k + 5) (nI p, b, m, bu, nd, mk, ft, fl, lo, sz, sg, ps, ak, bl) v') (nI p, b, m, mk, ft, fl, lo, sz, sg) v1 v2 := by
    intro h
    unfold wpY_add
    exact pt_yw0 h (br_t rfl ⟨rfl, pt_mkR J Tr⟩)
  unfold wpX_add
  rcases pk_ix v1 (n := 4096) (by omega) with h | h | ⟨a, ha, rfl⟩
  · exact br_t h (bad1 (Or.inl h))
  · exact br_f (pt_bad h).1 (br_t (pt_bad h).2.2.1 (bad1 (Or.inr h)))
  have bad2 : (v2 < 0 ∨ nI 4096 ≤ v2) → wpY_add (fun r' v' => r' = -1 ∧ i_Rel (k + 5) (nI p, b, m, bu, nd, mk, ft, fl, lo, sz, sg, ps, ak, bl) v') (nI p, b, m, mk, ft, fl, lo, sz, sg) (nI a) v2 := by
    intro h
    unfold wpY_add
    exact pt_yw1 ha (br_f (by decide) (pt_yw0 h (br_t rfl ⟨rfl, pt_mkR J Tr⟩)))
  refine br_f (nI_pos (by omega)) (br_f (nI_nlt (a := 4095) (by omega) (by omega)) ?_)
  rcases pk_ix v2 (n := 4096) (by omega) with h | h | ⟨c, hc, rfl⟩
  · exact br_t h (bad2 (Or.inl h))
  · exact br_f (pt_bad h).1 (br_t (pt_bad h).2.2.1 (bad2 (Or.inr h)))
  refine br_f (nI_pos (by omega)) (br_f (nI_nlt (a := 4095) (by omega) (by omega)) ?_)
  -- the reference from here on
  have yw : ∀ (r : Int32) (u' : SX), ((nI c &&& (nI a ^^^ (-1))) = 0 → (nI p = 16 → (-3 = r ∧ i_Rel (k + 5) u' (nI p, b, m, mk, ft, fl, lo, sz, sg))) ∧ (¬ nI p = 16 → ∃ n, wY_add_40 (fun r' v' => r' = r ∧ i_Rel (k + 5) u' v') (nI a) (nI c) (nI p) b m mk ft fl lo sz sg n 0)) →
      (¬ (nI c &&& (nI a ^^^ (-1))) = 0 → (-1 = r ∧ i_Rel (k + 5) u' (nI p, b, m, mk, ft, fl, lo, sz, sg))) →
      wpY_add (fun r' v' => r' = r ∧ i_Rel (k + 5) u' v') (nI p, b, m, mk, ft, fl, lo, sz, sg) (nI a) (nI c) := by
    intro r u' h1 h2
    unfold wpY_add
    exact pt_yw1 ha (br_f (by decide) (pt_yw1 hc (br_f (by decide) (br_c h1 h2))))
  by_cases z : (nI c &&& (nI a ^^^ (-1))) = 0
  · refine br_t z ?_
    have hca : c &&& a = c := by
      have h1 : c &&& a ≤ c := Nat.and_le_left
      have e := (pt_andn _ _).mp z
      rw [nx_and, nI_eq (by omega) (by omega)] at e
      exact e
    refine pk_lt p 16 (fun h16 => ?_) (fun h16 => ?_)
    · have n16 : ¬ nI p = 16 := fun q => by have := (nI_eq (b := 16) (by omega) (by omega)).mp q; omega
      refine ⟨p + 1, pt_xa46 J.1 h16 ha hc (fun h => ?_) (fun h => ?_) p 0 (p + 1) (by omega) (by omega) (fun j hj => absurd hj (by omega))⟩
      · obtain ⟨i, hi, ho⟩ := h
        have w2 := pt_ov2 hca (J.1.2.2.1 i) ho
        have hBl := pt_Bl J.1 i
        have hwl : c ||| B i < 4096 := Nat.or_lt_two_pow (n := 12) hc hBl
        refine yw _ _ (fun _ => ⟨fun q => absurd q n16, fun _ => ⟨4097, ?_⟩⟩) (fun q => absurd z q)
        exact pt_ya40 J.1 h16 ha hc (fun _ => ⟨rfl, pt_mkR J Tr⟩) (fun g => absurd w2.2 (g _ hwl w2.1 i hi)) 4096 0 4097 (by omega) (by omega) (fun j hj => absurd hj (by omega))
      · refine yw _ _ (fun _ => ⟨fun q => absurd q n16, fun _ => ⟨4097, ?_⟩⟩) (fun q => absurd z q)
        refine pt_ya40 J.1 h16 ha hc (fun g => ?_) (fun _ => ⟨rfl, pt_mkR (pt_inv_add J h16 ha hca h) (Or.inl rfl)⟩) 4096 0 4097 (by omega) (by omega) (fun j hj => absurd hj (by omega))
        obtain ⟨w, i, g1, g2, g3⟩ := g
        exact absurd (pt_ov1 g1 g3) (h i g2)
    · have e16 : nI p = 16 := congrArg nI (by omega : p = 16)
      exact yw _ _ (fun _ => ⟨fun _ => ⟨rfl, pt_mkR J Tr⟩, fun q => absurd e16 q⟩) (fun q => absurd z q)
  · exact br_f z (yw _ _ (fun q => absurd q z) (fun _ => ⟨rfl, pt_mkR J Tr⟩))
end
section
section
variable {p : Nat} {M B F L S : Nat → Nat} {b m bu nd : Int32} {mk ft fl lo sz sg ps ak bl : Nat → Int32}
/-! field -/
theorem pt_yf46 (J : pt_inv p b M B F L S mk ft fl lo sz) {i l s : Nat} (hi : i < p) (hls : l + s ≤ 12) {g : Int32} {post : Int32 → SY → Prop}
    (K5 : (∃ c, l ≤ c ∧ c < l + s ∧ M i / 2 ^ c % 2 ≠ 0) → post (-5) (nI p, b, m, mk, ft, fl, lo, sz, sg))
    (K3 : (∀ c, l ≤ c → c < l + s → M i / 2 ^ c % 2 = 0) → F i = 3 → post (-3) (nI p, b, m, mk, ft, fl, lo, sz, sg))
    (K0 : (∀ c, l ≤ c → c < l + s → M i / 2 ^ c % 2 = 0) → F i < 3 → post (nI (F i)) (nI p, b, m, mk, ft, upd fl i (nI (F i + 1)), upd lo (i * 3 + F i) (nI l), upd sz (i * 3 + F i) (nI s), upd sg (i * 3 + F i) (vp_nar .boolean g))) :
    ∀ d c n, c + d = l + s → d < n → l ≤ c → (∀ e, l ≤ e → e < c → M i / 2 ^ e % 2 = 0) → wY_field_46 post (nI i) (nI l) (nI s) g (nI p) b m mk ft fl lo sz sg n (nI c) := by
  have hp := J.1.1
  have hin : vp_in (nI i) 16 := vp_in_nI (by omega) (by omega)
  have ci : (nI i).toNatClampNeg = i := nI_clamp (by omega)
  have hF := J.2.1 i
  have ef : fl (nI i).toNatClampNeg = nI (F i) := by rw [ci, J.2.2.1 i]
  have els : nI l + nI s = nI (l + s) := nI_add l s
  intro d
  induction d with
  | zero =>
    intro c n hc hn hlc H
    obtain ⟨n, rfl⟩ := pt_suc hn
    have H' : ∀ e, l ≤ e → e < l + s → M i / 2 ^ e % 2 = 0 := fun e h1 h2 => H e h1 (by omega)
    refine br_t (by rw [els]; exact nI_le (by omega) (by omega)) (And.intro hin ?_)
    by_cases z : F i = 3
    · exact br_t (by rw [ef, z]; rfl) (K3 H' z)
    · refine br_f (by rw [ef]; exact fun q => z ((nI_eq (b := 3) (by omega) (by omega)).mp q)) (And.intro hin ?_)
      have ex : nI i * 3 + fl (nI i).toNatClampNeg = nI (i * 3 + F i) := by
        rw [ef, show nI i * 3 = nI (i * 3) from pk_mul i 3, nI_add]
      have hx : vp_in (nI (i * 3 + F i)) 48 := vp_in_nI (by omega) (by omega)
      have cx : (nI (i * 3 + F i)).toNatClampNeg = i * 3 + F i := nI_clamp (by omega)
      refine nm_r ex (And.intro hx (nm_r (e' := upd lo (i * 3 + F i) (nI l)) (by rw [cx]) (And.intro hx (nm_r (e' := upd sz (i * 3 + F i) (nI s)) (by rw [cx]) (And.intro hx (nm_r (e' := upd sg (i * 3 + F i) (vp_nar .boolean g)) (by rw [cx]) (And.intro hin (And.intro hin (nm_r (e' := upd fl i (nI (F i + 1))) (by rw [ef, ci, nI_1]) (And.intro hin ?_))))))))))
      rw [ci, pk_us, nI_pred]
      exact K0 H' (by omega)
  | succ d ih =>
    intro c n hc hn hlc H
    obtain ⟨n, rfl⟩ := pt_suc hn
    have bm := pt_mkb J.1 (i := i) (e := c) (by omega) (by omega)
    have h2 : M i / 2 ^ c % 2 < 2 := Nat.mod_lt _ (by omega)
    refine br_f (by rw [els]; exact nI_ge (by omega) (by omega)) (And.intro hin ?_)
    by_cases z : M i / 2 ^ c % 2 = 0
    · refine br_t (by rw [bm, z]; rfl) (nm_r (nI_1 c) (ih (c + 1) n (by omega) (by omega) (by omega) (fun e h1 h2 => ?_)))
      by_cases q : e = c
      · rw [q]; exact z
      · exact H e h1 (by omega)
    · exact br_f (by rw [bm]; exact nI_ne0 (by omega) (by omega)) (K5 ⟨c, hlc, by omega, z⟩)
/-! fields of a pattern -/
theorem pt_yif0 (J : pt_inv p b M B F L S mk ft fl lo sz) {i : Nat} (hi : i < p) {b' x : Int32} {post : Int32 → Prop} (h : x < 0 ∨ nI (F i) ≤ x) (K : post 0) : wpY_isField post (nI p, b', m, mk, ft, fl, lo, sz, sg) (nI i) x := by
  have hp := J.1.1
  have ef : fl (nI i).toNatClampNeg = nI (F i) := by rw [nI_clamp (by omega), J.2.2.1 i]
  refine br_c (fun _ => K) (fun h0 => And.intro (vp_in_nI (by omega) (by omega)) ?_)
  rcases h with h | h
  · exact absurd h h0
  · exact br_t (by rw [ef]; exact h) K
theorem pt_yif1 (J : pt_inv p b M B F L S mk ft fl lo sz) {i f : Nat} (hi : i < p) {b' : Int32} {post : Int32 → Prop} (h : f < F i) (K : post 1) : wpY_isField post (nI p, b', m, mk, ft, fl, lo, sz, sg) (nI i) (nI f) := by
  have hp := J.1.1
  have hF := J.2.1 i
  have ef : fl (nI i).toNatClampNeg = nI (F i) := by rw [nI_clamp (by omega), J.2.2.1 i]
  exact br_f (nI_pos (by omega)) (And.intro (vp_in_nI (by omega) (by omega)) (br_f (by rw [ef]; exact nI_ge h (by omega)) K))
end
theorem pt_12 (x : Int32) : 12 ≤ x ↔ 11 < x := by
  rw [Int32.le_iff_toInt_le, Int32.lt_iff_toInt_lt, show (12 : Int32).toInt = 12 by decide, show (11 : Int32).toInt = 11 by decide]
  omega
theorem i_vc_field {k : Nat} {u : SX} {v : SY} (I : i_Rel k u v) (hk : k + 5 ≤ 2560) (v1 : Int32) (v2 : Int32) (v3 : Int32) (v4 : Int32) : wpX_field (fun r u' => wpY_field (fun r' v' => r' = r ∧ i_Rel (k + 5) u' v') v v1 v2 v3 (lw_bz v4)) u v1 v2 v3 (lw_bz v4) := by
  generalize lw_bz v4 = g
  refine pt_el (P := fun u v => wpX_field (fun r u' => wpY_field (fun r' v' => r' = r ∧ i_Rel (k + 5) u' v') v v1 v2 v3 g) u v1 v2 v3 g) I ?_
  intro p b m bu nd mk ft fl lo sz sg ps ak bl M B F L S J Tr
  have hp := J.1.1
  have bad1 : (v1 < 0 ∨ nI p ≤ v1) → wpY_field (fun r' v' => r' = -4 ∧ i_Rel (k + 5) (nI p, b, m, bu, nd, mk, ft, fl, lo, sz, sg, ps, ak, bl) v') (nI p, b, m, mk, ft, fl, lo, sz, sg) v1 v2 v3 g := by
    intro h
    unfold wpY_field
    exact pt_yip0 h (br_t rfl ⟨rfl, pt_mkR J Tr⟩)
  unfold wpX_field
  rcases pk_ix v1 (n := p) (by omega) with h | h | ⟨i, hi, rfl⟩
  · exact pt_xnp1 (Or.inl h) (br_f (by decide) (bad1 (Or.inl h)))
  · exact pt_xnp1 (Or.inr h) (br_f (by decide) (bad1 (Or.inr h)))
  refine pt_xnp0 hp hi (br_t rfl ?_)
  have R := pt_mkR (k := k + 5) (m := m) (nd := nd) (sg := sg) J Tr
  by_cases c1 : v2 < 0
  · refine br_t c1 ?_
    unfold wpY_field
    exact pt_yip1 hp hi (br_f (by decide) (br_t c1 ⟨rfl, R⟩))
  refine br_f c1 ?_
  by_cases c2 : 12 ≤ v2
  · refine br_t c2 ?_
    unfold wpY_field
    exact pt_yip1 hp hi (br_f (by decide) (br_f c1 (br_t ((pt_12 v2).mp c2) ⟨rfl, R⟩)))
  refine br_f c2 ?_
  have c2' : ¬ 11 < v2 := fun q => c2 ((pt_12 v2).mpr q)
  by_cases c3 : v3 < 1
  · refine br_t c3 ?_
    unfold wpY_field
    exact pt_yip1 hp hi (br_f (by decide) (br_f c1 (br_f c2' (br_t c3 ⟨rfl, R⟩))))
  refine br_f c3 ?_
  by_cases c4 : 12 < v3
  · refine br_t c4 ?_
    unfold wpY_field
    exact pt_yip1 hp hi (br_f (by decide) (br_f c1 (br_f c2' (br_f c3 (br_t c4 ⟨rfl, R⟩)))))
  refine br_f c4 ?_
  by_cases c5 : v2 + v3 ≤ 12
  · refine br_t c5 ?_
    obtain ⟨l, hl, rfl⟩ := nI_of c1
    have c3' : ¬ v3 < 0 := by
      rw [Int32.lt_iff_toInt_lt, show (1 : Int32).toInt = 1 by decide] at c3
      rw [Int32.lt_iff_toInt_lt, pt_0I]
      omega
    obtain ⟨s, hs, rfl⟩ := nI_of c3'
    have d2 : l < 12 := by
      by_cases q : 12 ≤ l
      · exact absurd (nI_le (a := 12) q hl) c2
      · omega
    have d3 : 1 ≤ s := by
      by_cases q : s = 0
      · rw [q] at c3; exact absurd (by decide) c3
      · omega
    have d4 : s ≤ 12 := by
      by_cases q : 12 < s
      · exact absurd (nI_lt (a := 12) q hs) c4
      · omega
    have d5 : l + s ≤ 12 := by
      have q := c5
      rw [nI_add] at q
      exact (nI_leI (b := 12) (by omega) (by omega)).mp q
    have hin : vp_in (nI i) 16 := vp_in_nI (by omega) (by omega)
    have ci : (nI i).toNatClampNeg = i := nI_clamp (by omega)
    have hF := J.2.1 i
    have hM := J.1.2.1 i
    have ef : fl (nI i).toNatClampNeg = nI (F i) := by rw [ci, J.2.2.1 i]
    have er : (nI ((2 ^ s - 1) * 2 ^ l) &&& mk (nI i).toNatClampNeg = 0) ↔ ((2 ^ s - 1) * 2 ^ l) &&& M i = 0 := by
      have h1 : ((2 ^ s - 1) * 2 ^ l) &&& M i ≤ M i := Nat.and_le_right
      rw [ci, J.1.2.2.2.1 i, nx_and, ← nI_0, nI_eq (by omega) (by omega)]
    -- the reference's loop
    have yl : ∀ (r : Int32) (u' : SX),
        ((∃ c, l ≤ c ∧ c < l + s ∧ M i / 2 ^ c % 2 ≠ 0) → -5 = r ∧ i_Rel (k + 5) u' (nI p, b, m, mk, ft, fl, lo, sz, sg)) →
        ((∀ c, l ≤ c → c < l + s → M i / 2 ^ c % 2 = 0) → F i = 3 → -3 = r ∧ i_Rel (k + 5) u' (nI p, b, m, mk, ft, fl, lo, sz, sg)) →
        ((∀ c, l ≤ c → c < l + s → M i / 2 ^ c % 2 = 0) → F i < 3 → nI (F i) = r ∧ i_Rel (k + 5) u' (nI p, b, m, mk, ft, upd fl i (nI (F i + 1)), upd lo (i * 3 + F i) (nI l), upd sz (i * 3 + F i) (nI s), upd sg (i * 3 + F i) (vp_nar .boolean g))) →
        wpY_field (fun r' v' => r' = r ∧ i_Rel (k + 5) u' v') (nI p, b, m, mk, ft, fl, lo, sz, sg) (nI i) (nI l) (nI s) g := by
      intro r u' K5 K3 K0
      unfold wpY_field
      exact pt_yip1 hp hi (br_f (by decide) (br_f c1 (br_f c2' (br_f c3 (br_f c4 (br_t c5 ⟨s + 1, pt_yf46 J hi d5 K5 K3 K0 s l (s + 1) (by omega) (by omega) (Nat.le_refl l) (fun e h1 h2 => absurd h1 (by omega))⟩))))))
    unfold wpX_run
    rw [pt_rnI d5]
    refine And.intro hin ?_
    by_cases z : ((2 ^ s - 1) * 2 ^ l) &&& M i = 0
    · have nob : ∀ c, l ≤ c → c < l + s → ¬ M i / 2 ^ c % 2 ≠ 0 := fun c h1 h2 h3 => pt_rn2 h1 h2 h3 z
      refine br_t (er.mpr z) (And.intro hin (nm_r ef ?_))
      refine pk_lt (F i) 3 (fun h3 => ?_) (fun h3 => ?_)
      · have ex : nI i * 3 + nI (F i) = nI (i * 3 + F i) := by
          rw [show nI i * 3 = nI (i * 3) from pk_mul i 3, nI_add]
        have hx : vp_in (nI (i * 3 + F i)) 48 := vp_in_nI (by omega) (by omega)
        have cx : (nI (i * 3 + F i)).toNatClampNeg = i * 3 + F i := nI_clamp (by omega)
        refine nm_r ex (And.intro hx (nm_r (e' := upd lo (i * 3 + F i) (nI l)) (by rw [cx]) (And.intro hx (nm_r (e' := upd sz (i * 3 + F i) (nI s)) (by rw [cx]) (And.intro hx (nm_r (e' := upd sg (i * 3 + F i) (vp_nar .boolean g)) (by rw [cx]) (And.intro hin (nm_r (e' := upd fl i (nI (F i + 1))) (by rw [ci, nI_1]) ?_))))))))
        exact yl _ _ (fun ⟨c, h1, h2, h4⟩ => absurd h4 (nob c h1 h2)) (fun _ q => absurd q (by omega)) (fun _ _ => ⟨rfl, pt_mkR (pt_inv_field J h3 d3 d5) Tr⟩)
      · exact yl _ _ (fun ⟨c, h1, h2, h4⟩ => absurd h4 (nob c h1 h2)) (fun _ _ => ⟨rfl, R⟩) (fun _ q => absurd q (by omega))
    · refine br_f (fun q => z (er.mp q)) ?_
      exact yl _ _ (fun _ => ⟨rfl, R⟩) (fun q => absurd (pt_rn1 q) z) (fun q => absurd (pt_rn1 q) z)
  · refine br_f c5 ?_
    unfold wpY_field
    exact pt_yip1 hp hi (br_f (by decide) (br_f c1 (br_f c2' (br_f c3 (br_f c4 (br_f c5 ⟨rfl, R⟩))))))
end
section
section
variable {p : Nat} {M B F L S : Nat → Nat} {b m bu nd : Int32} {mk ft fl lo sz sg ps ak bl : Nat → Int32}
/-! operand -/
theorem pt_xop99 {t s l : Nat} (ht : t < 48) (hs : sz t = nI s) (hl : lo t = nI l) (hls : l + s ≤ 12) {x least most : Int32} (hr : (¬ x < least ∧ x ≤ most) ↔ ∃ v, v < 2 ^ s ∧ pt_sv s (sg t) v = x) {post : Int32 → SX → Prop}
    (K1 : ∀ v y, v < 2 ^ s → pt_sv s (sg t) v = x → y = ((m &&& (nI ((2 ^ s - 1) * 2 ^ l) ^^^ (-1))) ||| nI (v * 2 ^ l)) → post y (nI p, b, y, bu, nd, mk, ft, fl, lo, sz, sg, ps, ak, bl))
    (K0 : (∀ v, v < 2 ^ s → ¬ pt_sv s (sg t) v = x) → post (-6) (nI p, b, m, bu, nd, mk, ft, fl, lo, sz, sg, ps, ak, bl)) :
    wX_operand_99 post x (nI t) least most (nI p) b m bu nd mk ft fl lo sz sg ps ak bl := by
  have hin : vp_in (nI t) 48 := vp_in_nI ht (by omega)
  have ct : (nI t).toNatClampNeg = t := nI_clamp (by omega)
  have out : ¬ (¬ x < least ∧ x ≤ most) → post (-6) (nI p, b, m, bu, nd, mk, ft, fl, lo, sz, sg, ps, ak, bl) := fun h => K0 (fun v hv e => h (hr.mpr ⟨v, hv, e⟩))
  unfold wX_operand_99
  refine br_c (fun h => out (fun q => q.1 h)) (fun h1 => br_c (fun h2 => ?_) (fun h2 => out (fun q => h2 q.2)))
  obtain ⟨v, hv, e⟩ := hr.mp ⟨h1, h2⟩
  refine And.intro hin (And.intro hin ?_)
  unfold wpX_run
  rw [ct, hs, hl, pt_rnI hls]
  refine And.intro hin (fun y ey => K1 v y hv e (ey.trans ?_))
  rw [← e, pt_lay hls (pt_svm (by omega) hv)]
theorem pt_xop63 {t s l : Nat} (ht : t < 48) (h1 : 1 ≤ s) (hs : sz t = nI s) (hl : lo t = nI l) (hls : l + s ≤ 12) {x : Int32} {post : Int32 → SX → Prop}
    (K1 : ∀ v y, v < 2 ^ s → pt_sv s (sg t) v = x → y = ((m &&& (nI ((2 ^ s - 1) * 2 ^ l) ^^^ (-1))) ||| nI (v * 2 ^ l)) → post y (nI p, b, y, bu, nd, mk, ft, fl, lo, sz, sg, ps, ak, bl))
    (K0 : (∀ v, v < 2 ^ s → ¬ pt_sv s (sg t) v = x) → post (-6) (nI p, b, m, bu, nd, mk, ft, fl, lo, sz, sg, ps, ak, bl)) :
    (((sg (nI t).toNatClampNeg) = 0 → wX_operand_63 post x (nI t) 0 (nI p) b m bu nd mk ft fl lo sz sg ps ak bl) ∧
      (¬ (sg (nI t).toNatClampNeg) = 0 → vp_in (nI t) 48 ∧ wX_operand_63 post x (nI t) (-((1 : Int32) <<< (((sz (nI t).toNatClampNeg) - 1) &&& 31))) (nI p) b m bu nd mk ft fl lo sz sg ps ak bl)) := by
  have hin : vp_in (nI t) 48 := vp_in_nI ht (by omega)
  have ct : (nI t).toNatClampNeg = t := nI_clamp (by omega)
  have e1 : ((1 : Int32) <<< ((sz t) &&& 31)) - 1 = nI (2 ^ s - 1) := by rw [hs, pt_msk (by omega)]
  have e2 : (1 : Int32) <<< (((sz t) - 1) &&& 31) = nI (2 ^ (s - 1)) := by rw [hs, pt_n1 h1, pt_sh1 (by omega)]
  unfold wX_operand_63
  rw [ct]
  by_cases g : sg t = 0
  · refine br_t g (And.intro hin (br_t g (And.intro hin ?_)))
    rw [e1]
    refine pt_xop99 ht hs hl hls ((pt_rgU (by omega)).trans ?_) K1 K0
    constructor
    · intro ⟨v, hv, e⟩
      exact ⟨v, hv, (pt_sv0 g).trans e⟩
    · intro ⟨v, hv, e⟩
      exact ⟨v, hv, (pt_sv0 g).symm.trans e⟩
  · refine br_f g (And.intro hin (And.intro hin (br_f g (And.intro hin ?_))))
    rw [e2, pt_n1 (Nat.two_pow_pos _)]
    exact pt_xop99 ht hs hl hls (pt_rgS g h1 (by omega)) K1 K0
end
theorem i_vc_operand {k : Nat} {u : SX} {v : SY} (I : i_Rel k u v) (hk : k + 5 ≤ 2560) (v1 : Int32) (v2 : Int32) : wpX_operand (fun r u' => wpY_operand (fun r' v' => r' = r ∧ i_Rel (k + 5) u' v') v v1 v2) u v1 v2 := by
  refine pt_el (P := fun u v => wpX_operand (fun r u' => wpY_operand (fun r' v' => r' = r ∧ i_Rel (k + 5) u' v') v v1 v2) u v1 v2) I ?_
  intro p b m bu nd mk ft fl lo sz sg ps ak bl M B F L S J Tr
  have hp := J.1.1
  have R := pt_mkR (k := k + 5) (m := m) (nd := nd) (sg := sg) J Tr
  rcases J.2.2.2.2.2.2.2.1 with hb | ⟨j, hj, hb⟩
  · have n0 : ¬ (0 : Int32) ≤ b := by rw [hb]; decide
    exact br_f n0 (br_f n0 ⟨rfl, R⟩)
  have p0 : (0 : Int32) ≤ b := by rw [hb]; exact nI_pos' (by omega)
  have hin : vp_in b 16 := by rw [hb]; exact vp_in_nI (by omega) (by omega)
  have cb : b.toNatClampNeg = j := by rw [hb]; exact nI_clamp (by omega)
  have hF := J.2.1 j
  have ef : fl b.toNatClampNeg = nI (F j) := by rw [cb, J.2.2.1 j]
  refine br_t p0 ?_
  have bad : (v1 < 0 ∨ nI (F j) ≤ v1) → wpY_operand (fun r' v' => r' = -5 ∧ i_Rel (k + 5) (nI p, b, m, bu, nd, mk, ft, fl, lo, sz, sg, ps, ak, bl) v') (nI p, b, m, mk, ft, fl, lo, sz, sg) v1 v2 := by
    intro h
    unfold wpY_operand
    refine br_t p0 ?_
    have y := pt_yif0 (m := m) (sg := sg) (b' := b) (post := fun r_2 => (r_2 = 0 → (fun r' v' => r' = (-5 : Int32) ∧ i_Rel (k + 5) (nI p, b, m, bu, nd, mk, ft, fl, lo, sz, sg, ps, ak, bl) v') (-5) (nI p, b, m, mk, ft, fl, lo, sz, sg)) ∧ (¬ r_2 = 0 → ∀ x3, x3 = b * 3 + v1 → ∃ n, wY_operand_37 (fun r' v' => r' = (-5 : Int32) ∧ i_Rel (k + 5) (nI p, b, m, bu, nd, mk, ft, fl, lo, sz, sg, ps, ak, bl) v') v2 x3 (nI p) b m mk ft fl lo sz sg n 0)) J hj h (br_t rfl ⟨rfl, R⟩)
    rw [← hb] at y
    exact y
  rcases pk_ix v1 (n := F j) (by omega) with h | h | ⟨f, hf, rfl⟩
  · exact br_t h (bad (Or.inl h))
  · refine br_c (fun _ => bad (Or.inr h)) (fun _ => And.intro hin (br_f (by rw [ef]; exact Int32.not_lt.mpr h) (bad (Or.inr h))))
  have ex : b * 3 + nI f = nI (j * 3 + f) := by
    rw [hb, show nI j * 3 = nI (j * 3) from pk_mul j 3, nI_add]
  have ht : j * 3 + f < 48 := by omega
  have h1 := J.2.2.2.2.2.2.1 j f hf
  have hls := J.2.2.2.1 (j * 3 + f)
  have hl := J.2.2.2.2.1 (j * 3 + f)
  have hs := J.2.2.2.2.2.1 (j * 3 + f)
  -- the reference
  have yo : ∀ (r : Int32) (u' : SX),
      (∀ v y, v < 2 ^ S (j * 3 + f) → pt_sv (S (j * 3 + f)) (sg (j * 3 + f)) v = v2 → y = ((m &&& (nI ((2 ^ S (j * 3 + f) - 1) * 2 ^ L (j * 3 + f)) ^^^ (-1))) ||| nI (v * 2 ^ L (j * 3 + f))) → y = r ∧ i_Rel (k + 5) u' (nI p, b, y, mk, ft, fl, lo, sz, sg)) →
      ((∀ v, v < 2 ^ S (j * 3 + f) → ¬ pt_sv (S (j * 3 + f)) (sg (j * 3 + f)) v = v2) → -6 = r ∧ i_Rel (k + 5) u' (nI p, b, m, mk, ft, fl, lo, sz, sg)) →
      wpY_operand (fun r' v' => r' = r ∧ i_Rel (k + 5) u' v') (nI p, b, m, mk, ft, fl, lo, sz, sg) (nI f) v2 := by
    intro r u' K1 K0
    unfold wpY_operand
    refine br_t p0 ?_
    have y := pt_yif1 (m := m) (sg := sg) (b' := b) (post := fun r_2 => (r_2 = 0 → (fun r' v' => r' = r ∧ i_Rel (k + 5) u' v') (-5) (nI p, b, m, mk, ft, fl, lo, sz, sg)) ∧ (¬ r_2 = 0 → ∀ x3, x3 = b * 3 + nI f → ∃ n, wY_operand_37 (fun r' v' => r' = r ∧ i_Rel (k + 5) u' v') v2 x3 (nI p) b m mk ft fl lo sz sg n 0)) J hj hf (br_f (by decide) (nm_r ex ⟨2 ^ S (j * 3 + f) + 1, pt_yop37 ht h1 hs hl hls K1 K0 (2 ^ S (j * 3 + f)) 0 _ (by omega) (by omega) (fun v hv => absurd hv (by omega))⟩))
    rw [← hb] at y
    exact y
  refine br_f (nI_pos (by omega)) (And.intro hin (br_t (by rw [ef]; exact nI_lt hf (by omega)) (nm_r ex (And.intro (vp_in_nI ht (by omega)) ?_))))
  refine pt_xop63 ht h1 hs hl hls (fun v y hv e ey => ?_) (fun h => ?_)
  · refine yo _ _ (fun v' y' hv' e' ey' => ?_) (fun h => absurd e (h v hv))
    have ev : v' = v := by
      rw [← pt_svm (g := sg (j * 3 + f)) (by omega) hv, ← pt_svm (g := sg (j * 3 + f)) (by omega) hv', e, e']
    subst ev
    have e3 : y' = y := ey'.trans ey.symm
    subst e3
    exact ⟨rfl, pt_mkR J Tr⟩
  · exact yo _ _ (fun v y hv e _ => absurd e (h v hv)) (fun _ => ⟨rfl, R⟩)
/-! value -/
theorem i_vc_value {k : Nat} {u : SX} {v : SY} (I : i_Rel k u v) (hk : k + 5 ≤ 2560) (v1 : Int32) (v2 : Int32) : wpX_value (fun r u' => wpY_value (fun r' => r' = r ∧ i_Rel (k + 5) u' v) v v1 v2) u v1 v2 := by
  refine pt_el (P := fun u v => wpX_value (fun r u' => wpY_value (fun r' => r' = r ∧ i_Rel (k + 5) u' v) v v1 v2) u v1 v2) I ?_
  intro p b m bu nd mk ft fl lo sz sg ps ak bl M B F L S J Tr
  have hp := J.1.1
  have bad : (v1 < 0 ∨ nI 4096 ≤ v1) → wpY_value (fun r' => r' = 0 ∧ i_Rel (k + 5) (nI p, b, m, bu, nd, mk, ft, fl, lo, sz, sg, ps, ak, bl) (nI p, b, m, mk, ft, fl, lo, sz, sg)) (nI p, b, m, mk, ft, fl, lo, sz, sg) v1 v2 := by
    intro h
    unfold wpY_value
    exact pt_ydecB h (br_t (by decide) ⟨rfl, pt_mkR J Tr⟩)
  unfold wpX_value
  rcases pk_ix v1 (n := 4096) (by omega) with h | h | ⟨w, hw, rfl⟩
  · exact pt_xbw1 (Or.inl h) (br_f (by decide) (bad (Or.inl h)))
  · exact pt_xbw1 (Or.inr h) (br_f (by decide) (bad (Or.inr h)))
  obtain ⟨r, hr⟩ := pt_fst_ex (fun i => w &&& M i = B i) p p 0 (by omega)
  refine pt_xbw0 hw (br_t rfl ?_)
  refine pt_xlook J.1 Tr hw hr (fun bu' nd' ps' ak' bl' Tr' => ?_)
  have R := pt_mkR (k := k + 5) (m := m) (nd := nd') (sg := sg) J Tr'
  have hr2 := hr
  rcases hr2 with ⟨e, _⟩ | ⟨q, e, _, hq, _, _⟩
  · subst e
    refine br_t (by decide) ?_
    unfold wpY_value
    exact pt_ydec J.1 hw hr (br_t (by decide) ⟨rfl, R⟩)
  subst e
  have nn : ¬ nI q < 0 := nI_pos (by omega)
  have hin : vp_in (nI q) 16 := vp_in_nI (by omega) (by omega)
  have hF := J.2.1 q
  have ef : fl (nI q).toNatClampNeg = nI (F q) := by rw [nI_clamp (by omega), J.2.2.1 q]
  have badf : (v2 < 0 ∨ nI (F q) ≤ v2) → wpY_value (fun r' => r' = 0 ∧ i_Rel (k + 5) (nI p, b, m, bu', nd', mk, ft, fl, lo, sz, sg, ps', ak', bl') (nI p, b, m, mk, ft, fl, lo, sz, sg)) (nI p, b, m, mk, ft, fl, lo, sz, sg) (nI w) v2 := by
    intro h
    unfold wpY_value
    exact pt_ydec J.1 hw hr (br_f nn (pt_yif0 J hq h (br_t rfl ⟨rfl, R⟩)))
  refine br_f nn ?_
  rcases pk_ix v2 (n := F q) (by omega) with h | h | ⟨f, hf, rfl⟩
  · exact br_t h (badf (Or.inl h))
  · exact br_c (fun _ => badf (Or.inr h)) (fun _ => And.intro hin (br_f (by rw [ef]; exact Int32.not_lt.mpr h) (badf (Or.inr h))))
  have ex : nI q * 3 + nI f = nI (q * 3 + f) := by
    rw [show nI q * 3 = nI (q * 3) from pk_mul q 3, nI_add]
  have ht : q * 3 + f < 48 := by omega
  have h1 := J.2.2.2.2.2.2.1 q f hf
  have hls := J.2.2.2.1 (q * 3 + f)
  have hl := J.2.2.2.2.1 (q * 3 + f)
  have hs := J.2.2.2.2.2.1 (q * 3 + f)
  have hit : vp_in (nI (q * 3 + f)) 48 := vp_in_nI ht (by omega)
  have ct : (nI (q * 3 + f)).toNatClampNeg = q * 3 + f := nI_clamp (by omega)
  have yv : ∀ r, r = pt_sv (S (q * 3 + f)) (sg (q * 3 + f)) (w / 2 ^ L (q * 3 + f) % 2 ^ S (q * 3 + f)) → wpY_value (fun r' => r' = r ∧ i_Rel (k + 5) (nI p, b, m, bu', nd', mk, ft, fl, lo, sz, sg, ps', ak', bl') (nI p, b, m, mk, ft, fl, lo, sz, sg)) (nI p, b, m, mk, ft, fl, lo, sz, sg) (nI w) (nI f) := by
    intro r er
    unfold wpY_value
    refine pt_ydec J.1 hw hr (br_f nn (pt_yif1 J hq hf (br_f (by decide) ?_)))
    rw [ex]
    exact pt_yread ht h1 hs hl hls hw ⟨er.symm, R⟩
  have h2s : (2 : Nat) ^ S (q * 3 + f) ≤ 4096 := pt_pw (c := 12) (by omega)
  have hml : w / 2 ^ L (q * 3 + f) % 2 ^ S (q * 3 + f) < 2 ^ S (q * 3 + f) := Nat.mod_lt _ (Nat.two_pow_pos _)
  have hdl : w / 2 ^ L (q * 3 + f) ≤ w := Nat.div_le_self _ _
  have hpl : (2 : Nat) ^ (S (q * 3 + f) - 1) ≤ 4096 := pt_pw (c := 12) (by omega)
  have e5 : (nI w >>> ((lo (nI (q * 3 + f)).toNatClampNeg) &&& 31)) &&& (((1 : Int32) <<< ((sz (nI (q * 3 + f)).toNatClampNeg) &&& 31)) - 1) = nI (w / 2 ^ L (q * 3 + f) % 2 ^ S (q * 3 + f)) := by
    rw [ct, hl, hs, pt_msk (by omega), pk_shrN (by omega) _ _ (s_l _ (by omega)), nx_and, Nat.and_two_pow_sub_one_eq_mod]
  have e6 : (1 : Int32) <<< (((sz (nI (q * 3 + f)).toNatClampNeg) - 1) &&& 31) = nI (2 ^ (S (q * 3 + f) - 1)) := by rw [ct, hs, pt_n1 h1, pt_sh1 (by omega)]
  have e7 : (1 : Int32) <<< ((sz (nI (q * 3 + f)).toNatClampNeg) &&& 31) = nI (2 ^ S (q * 3 + f)) := by rw [ct, hs, pt_sh1 (by omega)]
  refine br_f (nI_pos (by omega)) (And.intro hin (br_t (by rw [ef]; exact nI_lt hf (by omega)) (nm_r ex (And.intro hit (And.intro hit (nm_r e5 (And.intro hit ?_)))))))
  by_cases g : sg (q * 3 + f) = 0
  · exact br_t (by rw [ct]; exact g) (yv _ (pt_sv0 g).symm)
  · refine br_f (by rw [ct]; exact g) (And.intro hit ?_)
    by_cases z : w / 2 ^ L (q * 3 + f) % 2 ^ S (q * 3 + f) < 2 ^ (S (q * 3 + f) - 1)
    · exact br_t (by rw [e6]; exact nI_lt z (by omega)) (yv _ (pt_sv1 z).symm)
    · refine br_f (by rw [e6]; exact nI_nlt (by omega) (by omega)) (And.intro hit (fun y ey => yv y ?_))
      rw [ey, e7, pt_sv2 g z]
end
