section
/-! ===== Int32 by its bits: bt x i ===== -/
def bt (x : Int32) (i : Nat) : Bool := x.toBitVec.getLsbD i
theorem b_ext {x y : Int32} (h : ∀ i, i < 32 → bt x i = bt y i) : x = y := Int32.toBitVec_inj.mp (BitVec.eq_of_getLsbD_eq (fun i hi => h i hi))
theorem b_or (x y : Int32) (i : Nat) : bt (x ||| y) i = (bt x i || bt y i) := by unfold bt; rw [Int32.toBitVec_or, BitVec.getLsbD_or]
theorem b_and (x y : Int32) (i : Nat) : bt (x &&& y) i = (bt x i && bt y i) := by unfold bt; rw [Int32.toBitVec_and, BitVec.getLsbD_and]
theorem b_xor (x y : Int32) (i : Nat) : bt (x ^^^ y) i = (bt x i ^^ bt y i) := by unfold bt; rw [Int32.toBitVec_xor, BitVec.getLsbD_xor]
theorem b_big {x : Int32} {i : Nat} (h : 32 ≤ i) : bt x i = false := BitVec.getLsbD_of_ge _ _ h
theorem b_255 (i : Nat) : bt 255 i = decide (i < 8) := by
  rcases Nat.lt_or_ge i 32 with h | h
  · exact (by decide +kernel : ∀ i, i < 32 → bt 255 i = decide (i < 8)) i h
  · rw [b_big h, decide_eq_false (by omega)]
theorem b_65535 (i : Nat) : bt 65535 i = decide (i < 16) := by
  rcases Nat.lt_or_ge i 32 with h | h
  · exact (by decide +kernel : ∀ i, i < 32 → bt 65535 i = decide (i < 16)) i h
  · rw [b_big h, decide_eq_false (by omega)]
theorem b_m1 : ∀ i, i < 32 → bt (-1) i = true := by decide +kernel
theorem b_0 (i : Nat) : bt 0 i = false := BitVec.getLsbD_zero
theorem s_l : ∀ n, n < 32 → ((nI n &&& 31).toBitVec.smod 32).toNat = n := by decide +kernel
theorem s_u : ∀ n, n < 32 → (((nI n).toUInt32 &&& Int32.toUInt32 31).toBitVec % 32).toNat = n := by decide +kernel
theorem b_shl (n : Nat) (hn : n < 32) (x : Int32) {i : Nat} (hi : i < 32) : bt (x <<< (nI n &&& 31)) i = (decide (n ≤ i) && bt x (i - n)) := by
  unfold bt
  rw [Int32.toBitVec_shiftLeft]
  show (x.toBitVec <<< ((nI n &&& 31).toBitVec.smod 32).toNat).getLsbD i = _
  rw [s_l n hn, BitVec.getLsbD_shiftLeft]
  rcases Nat.lt_or_ge i n with h | h
  · simp [h, Nat.not_le.mpr h]
  · simp [hi, h, Nat.not_lt.mpr h]
theorem b_ushr (n : Nat) (hn : n < 32) (x : Int32) (i : Nat) : bt ((x.toUInt32 >>> ((nI n).toUInt32 &&& Int32.toUInt32 31)).toInt32) i = bt x (n + i) := by
  show (x.toUInt32 >>> ((nI n).toUInt32 &&& Int32.toUInt32 31)).toBitVec.getLsbD i = x.toUInt32.toBitVec.getLsbD (n + i)
  rw [UInt32.toBitVec_shiftRight]
  show (x.toUInt32.toBitVec >>> (((nI n).toUInt32 &&& Int32.toUInt32 31).toBitVec % 32).toNat).getLsbD i = _
  rw [s_u n hn, BitVec.getLsbD_ushiftRight]
theorem b_sshr (n : Nat) (hn : n < 32) (x : Int32) {i : Nat} (hi : i < 32) : bt (x >>> (nI n &&& 31)) i = if n + i < 32 then bt x (n + i) else bt x 31 := by
  unfold bt
  rw [Int32.toBitVec_shiftRight]
  show (x.toBitVec.sshiftRight ((nI n &&& 31).toBitVec.smod 32).toNat).getLsbD i = _
  rw [s_l n hn, BitVec.getLsbD_sshiftRight, BitVec.msb_eq_getLsbD_last]
  simp [hi]
theorem b_shl8 (x : Int32) {i : Nat} (hi : i < 32) : bt (x <<< ((8 : Int32) &&& 31)) i = (decide (8 ≤ i) && bt x (i - 8)) := b_shl 8 (by omega) x hi
theorem b_shl16 (x : Int32) {i : Nat} (hi : i < 32) : bt (x <<< ((16 : Int32) &&& 31)) i = (decide (16 ≤ i) && bt x (i - 16)) := b_shl 16 (by omega) x hi
theorem b_shl24 (x : Int32) {i : Nat} (hi : i < 32) : bt (x <<< ((24 : Int32) &&& 31)) i = (decide (24 ≤ i) && bt x (i - 24)) := b_shl 24 (by omega) x hi
theorem b_sshr8 (x : Int32) {i : Nat} (hi : i < 32) : bt (x >>> ((8 : Int32) &&& 31)) i = if 8 + i < 32 then bt x (8 + i) else bt x 31 := b_sshr 8 (by omega) x hi
/-! ===== nI under and, xor, >>>, one bit, 65535 ===== -/
theorem nx_and (a b : Nat) : nI a &&& nI b = nI (a &&& b) := by
  apply Int32.toBitVec_inj.1
  show BitVec.ofNat 32 a &&& BitVec.ofNat 32 b = BitVec.ofNat 32 (a &&& b)
  apply BitVec.eq_of_getLsbD_eq
  intro i hi
  simp [hi]
theorem nx_xor (a b : Nat) : nI a ^^^ nI b = nI (a ^^^ b) := by
  apply Int32.toBitVec_inj.1
  show BitVec.ofNat 32 a ^^^ BitVec.ofNat 32 b = BitVec.ofNat 32 (a ^^^ b)
  apply BitVec.eq_of_getLsbD_eq
  intro i hi
  simp [hi]
theorem nx_cnt : ∀ j : Fin 32, (UInt32.ofNat j.val &&& Int32.toUInt32 31).toNat % 32 = j.val := by decide +kernel
theorem nx_ush {k j : Nat} (hk : k < 65536) (hj : j < 32) : ((nI k).toUInt32 >>> ((nI j).toUInt32 &&& Int32.toUInt32 31)).toInt32 = nI (k >>> j) := by
  have hs : k >>> j ≤ k := by
    rw [Nat.shiftRight_eq_div_pow]
    exact Nat.div_le_self _ _
  have e2 : UInt32.ofNat k >>> (UInt32.ofNat j &&& Int32.toUInt32 31) = UInt32.ofNat (k >>> j) := by
    apply UInt32.toNat_inj.1
    have h1 : (UInt32.ofNat k).toNat = k := Nat.mod_eq_of_lt (by omega)
    have h2 : (UInt32.ofNat (k >>> j)).toNat = k >>> j := Nat.mod_eq_of_lt (by omega)
    rw [UInt32.toNat_shiftRight, nx_cnt ⟨j, hj⟩, h1, h2]
  show (UInt32.ofNat k >>> (UInt32.ofNat j &&& Int32.toUInt32 31)).toInt32 = _
  rw [e2]
  rfl
theorem nx_bit {k j : Nat} (hk : k < 65536) (hj : j < 16) : (((nI k).toUInt32 >>> ((nI j).toUInt32 &&& Int32.toUInt32 31)).toInt32 &&& 1) = 0 ↔ k.testBit j = false := by
  rw [nx_ush hk (by omega)]
  show nI (k >>> j) &&& nI 1 = 0 ↔ _
  rw [nx_and, Nat.and_one_is_mod, ← nI_0, nI_eq (by omega) (by omega), Nat.testBit_eq_decide_div_mod_eq, Nat.shiftRight_eq_div_pow, decide_eq_false_iff_not]
  generalize k / 2 ^ j = z
  omega
theorem nx_mod (k : Nat) : nI k &&& 65535 = nI (k % 65536) := by
  show nI k &&& nI 65535 = _
  rw [nx_and, show (65535 : Nat) = 2 ^ 16 - 1 from rfl, Nat.and_two_pow_sub_one_eq_mod]
theorem nx_m16 {k : Nat} (h : k < 65536) : nI k &&& 65535 = nI k := by rw [nx_mod, Nat.mod_eq_of_lt h]
theorem nx_mask (x : Int32) : ∃ k, k < 65536 ∧ x &&& 65535 = nI k := by
  have e : x = nI x.toBitVec.toNat := by
    apply Int32.toBitVec_inj.1
    show x.toBitVec = BitVec.ofNat 32 x.toBitVec.toNat
    simp
  refine ⟨x.toBitVec.toNat % 65536, Nat.mod_lt _ (by omega), ?_⟩
  rw [← nx_mod, ← e]
/-! pure rows to paste: stores, nI and lN arithmetic, masks, shifts, narrowing, branches by naturals (pk_le, pk_lt, pk_eq), loops (lp1 .. lp16: the measure of the state; rp1 ..: recursion), negatives. Take what you need -/
theorem pk_us {f : Nat → Int32} {k : Nat} {x : Int32} : upd f k x k = x := if_pos rfl
theorem pk_un {f : Nat → Int32} {k j : Nat} {x : Int32} (h : j ≠ k) : upd f k x j = f j := if_neg h
theorem pk_uLs {f : Nat → Int64} {k : Nat} {x : Int64} : vp_updL f k x k = x := if_pos rfl
theorem pk_uLn {f : Nat → Int64} {k j : Nat} {x : Int64} (h : j ≠ k) : vp_updL f k x j = f j := if_neg h
theorem pk_sub {a b : Nat} (h : b ≤ a) : nI a - nI b = nI (a - b) := by
  obtain ⟨c, rfl⟩ : ∃ c, a = c + b := ⟨a - b, by omega⟩
  rw [← nI_add, Int32.add_sub_cancel, Nat.add_sub_cancel]
theorem pk_m1 (n : Nat) : nI (n + 1) + (-1) = nI n := by
  rw [← nI_1, Int32.add_assoc, show (1 : Int32) + (-1) = 0 from rfl, Int32.add_zero]
theorem pk_mul (a b : Nat) : nI a * nI b = nI (a * b) := (Int32.ofNat_mul a b).symm
theorem pk_div {a d : Nat} (ha : a < 2 ^ 31) (h0 : 0 < d) (hd : d < 2 ^ 31) : nI a / nI d = nI (a / d) := by
  apply Int32.toInt_inj.mp
  rw [lg_idiv_nonneg (by rw [nI_toInt ha]; omega) (by rw [nI_toInt hd]; omega), nI_toInt ha, nI_toInt hd, nI_toInt (Nat.lt_of_le_of_lt (Nat.div_le_self a d) ha)]
  first | rfl | exact (Int.natCast_ediv _ _).symm
theorem pk_rem {a d : Nat} (ha : a < 2 ^ 31) (h0 : 0 < d) (hd : d < 2 ^ 31) : nI a - nI a / nI d * nI d = nI (a % d) := by
  rw [pk_div ha h0 hd, pk_mul, pk_sub (Nat.div_mul_le_self a d)]
  exact congrArg nI (by have := Nat.div_add_mod' a d; omega)
theorem pk_sub_toInt {a b : Nat} (ha : a < 2 ^ 30) (hb : b < 2 ^ 30) : (nI a - nI b).toInt = (a : Int) - b := by
  rw [Int32.toInt_sub, nI_toInt (by omega), nI_toInt (by omega)]
  exact Int.bmod_eq_of_le (by omega) (by omega)
theorem pk_sneg {a b : Nat} (hb : b < 2 ^ 30) (h : a < b) : nI a - nI b < 0 := by
  rw [Int32.lt_iff_toInt_lt, pk_sub_toInt (by omega) hb, show (0 : Int32).toInt = 0 from by decide]
  omega
theorem pk_ix (x : Int32) {n : Nat} (hn : n < 2 ^ 31) : x < 0 ∨ nI n ≤ x ∨ ∃ j : Nat, j < n ∧ x = nI j := by
  by_cases h : x < 0
  · exact Or.inl h
  · obtain ⟨j, hj, rfl⟩ := nI_of h
    by_cases h2 : j < n
    · exact Or.inr (Or.inr ⟨j, h2, rfl⟩)
    · exact Or.inr (Or.inl (nI_le (by omega) hj))
theorem pk_le {x y : Int32} {A B : Prop} (a b : Nat) (f : a ≤ b → A) (g : b < a → B) (hx : x = nI a := by rfl) (hy : y = nI b := by rfl) (ha : a < 2 ^ 31 := by omega) (hb : b < 2 ^ 31 := by omega) : (x ≤ y → A) ∧ (¬ x ≤ y → B) := by
  subst hx hy
  rw [nI_leI ha hb]
  exact ⟨f, fun z => g (by omega)⟩
theorem pk_lt {x y : Int32} {A B : Prop} (a b : Nat) (f : a < b → A) (g : b ≤ a → B) (hx : x = nI a := by rfl) (hy : y = nI b := by rfl) (ha : a < 2 ^ 31 := by omega) (hb : b < 2 ^ 31 := by omega) : (x < y → A) ∧ (¬ x < y → B) := by
  subst hx hy
  rw [nI_ltI ha hb]
  exact ⟨f, fun z => g (by omega)⟩
theorem pk_eq {x y : Int32} {A B : Prop} (a b : Nat) (f : a = b → A) (g : a ≠ b → B) (hx : x = nI a := by rfl) (hy : y = nI b := by rfl) (ha : a < 2 ^ 31 := by omega) (hb : b < 2 ^ 31 := by omega) : (x = y → A) ∧ (¬ x = y → B) := by
  subst hx hy
  rw [nI_eq ha hb]
  exact ⟨f, g⟩
theorem pk_in {x : Int32} (n N : Nat) (h : n < N) (hx : x = nI n := by rfl) (hN : N < 2 ^ 31 := by omega) : vp_in x N := by
  subst hx
  exact vp_in_nI h hN
theorem pk_cl {x : Int32} (n : Nat) (hx : x = nI n := by rfl) (h : n < 2 ^ 31 := by omega) : x.toNatClampNeg = n := by
  subst hx
  exact nI_clamp h
theorem pk_tn {n : Nat} (h : n < 2 ^ 32) : (nI n).toBitVec.toNat = n := Nat.mod_eq_of_lt h
theorem pk_and (x : Int32) {m : Int32} (k : Nat) (hm : m.toBitVec.toNat = 2 ^ k - 1) : x &&& m = nI (x.toBitVec.toNat % 2 ^ k) := by
  apply Int32.toBitVec_inj.mp
  apply BitVec.eq_of_toNat_eq
  rw [Int32.toBitVec_and, BitVec.toNat_and, hm, Nat.and_two_pow_sub_one_eq_mod]
  show _ = (BitVec.ofNat 32 _).toNat
  rw [BitVec.toNat_ofNat]
  exact (Nat.mod_eq_of_lt (Nat.lt_of_le_of_lt (Nat.mod_le _ _) x.toBitVec.isLt)).symm
theorem pk_andN {n : Nat} (h : n < 2 ^ 32) {m : Int32} (k : Nat) (hm : m.toBitVec.toNat = 2 ^ k - 1) : nI n &&& m = nI (n % 2 ^ k) := by
  rw [pk_and _ k hm, pk_tn h]
theorem pk_andE (x : Int32) {m : Int32} (k : Nat) (hm : m.toBitVec.toNat = 2 ^ k - 1) : ∃ j : Nat, j < 2 ^ k ∧ x &&& m = nI j := ⟨_, Nat.mod_lt _ (Nat.two_pow_pos k), pk_and x k hm⟩
theorem pk_andIn (x : Int32) {m : Int32} (k : Nat) (hm : m.toBitVec.toNat = 2 ^ k - 1) (hk : k ≤ 30) : vp_in (x &&& m) (2 ^ k) := by
  obtain ⟨j, hj, e⟩ := pk_andE x k hm
  rw [e]
  exact vp_in_nI hj (Nat.lt_of_le_of_lt (Nat.pow_le_pow_right (by decide) hk) (by decide))
theorem pk_shl (a s : Int32) (k : Nat) (hs : (s.toBitVec.smod 32).toNat = k) : (a <<< s).toBitVec.toNat = a.toBitVec.toNat * 2 ^ k % 2 ^ 32 := by
  show (a.toBitVec <<< (s.toBitVec.smod 32).toNat).toNat = _
  rw [hs, BitVec.toNat_shiftLeft, Nat.shiftLeft_eq]
theorem pk_shlN {n : Nat} (s : Int32) (k : Nat) (hs : (s.toBitVec.smod 32).toNat = k) (h : n * 2 ^ k < 2 ^ 32) : nI n <<< s = nI (n * 2 ^ k) := by
  apply Int32.toBitVec_inj.mp
  apply BitVec.eq_of_toNat_eq
  have hn : n < 2 ^ 32 := Nat.lt_of_le_of_lt (Nat.le_mul_of_pos_right n (Nat.two_pow_pos k)) h
  rw [pk_shl _ _ k hs, pk_tn hn, pk_tn h, Nat.mod_eq_of_lt h]
theorem pk_shr (a s : Int32) (k : Nat) (hs : (s.toBitVec.smod 32).toNat = k) : (a >>> s).toInt = a.toInt >>> k := by
  show (a.toBitVec.sshiftRight (s.toBitVec.smod 32).toNat).toInt = _
  rw [hs, BitVec.toInt_sshiftRight]
  rfl
theorem pk_shrN {n : Nat} (h : n < 2 ^ 31) (s : Int32) (k : Nat) (hs : (s.toBitVec.smod 32).toNat = k) : nI n >>> s = nI (n / 2 ^ k) := by
  apply Int32.toInt_inj.mp
  have h2 : n / 2 ^ k ≤ n := Nat.div_le_self _ _
  rw [pk_shr _ _ k hs, nI_toInt h, nI_toInt (by omega), Int.shiftRight_eq_div_pow]
  rfl
theorem pk_loop {σ : Type} (W : Nat → Nat → σ → Prop) (I : Nat → σ → Prop) (e i0 : Nat) (s : σ) (hi : i0 ≤ e) (h0 : I i0 s) (hx : ∀ n s, I e s → W (n + 1) e s)
    (hs : ∀ n i s, i < e → I i s → (∀ s', I (i + 1) s' → W n (i + 1) s') → W (n + 1) i s) : ∃ n, W n i0 s :=
  ⟨e + 1, loop_i W I e hx hs (e + 1) i0 s hi (by omega) h0⟩
theorem pk_loopD {σ : Type} (W : Nat → Nat → σ → Prop) (I : Nat → σ → Prop) (hx : ∀ n s, I 0 s → W (n + 1) 0 s)
    (hs : ∀ n i s, I (i + 1) s → (∀ s', I i s' → W n i s') → W (n + 1) (i + 1) s) : ∀ (e : Nat) (s : σ), I e s → W (e + 1) e s := by
  intro e
  induction e with
  | zero => exact fun s h => hx 0 s h
  | succ e ih => exact fun s h => hs (e + 1) e s h (fun s' h' => ih s' h')
def bx_sum (f : Nat → Int32) : Nat → Int32
  | 0 => 0
  | n + 1 => bx_sum f n + f n
theorem ek_if {c d A B : Prop} (e : c ↔ d) (f : d → A) (g : ¬ d → B) : (c → A) ∧ (¬ c → B) :=
  ⟨fun z => f (e.mp z), fun z => g (fun y => z (e.mpr y))⟩
theorem ek_v {α : Sort _} {P : α → Prop} {a b : α} (e : a = b) (h : P b) : P a := e ▸ h
end
section
/-! counting: how many i < n have p; sums in Int32; sums over a binary tree -/
def mc_cn (p : Nat → Bool) : Nat → Nat
  | 0 => 0
  | n + 1 => mc_cn p n + (if p n = true then 1 else 0)
theorem mc_cn_t {p : Nat → Bool} {n : Nat} (h : p n = true) : mc_cn p (n + 1) = mc_cn p n + 1 := by
  show mc_cn p n + (if p n = true then 1 else 0) = _
  rw [if_pos h]
theorem mc_cn_f {p : Nat → Bool} {n : Nat} (h : ¬ p n = true) : mc_cn p (n + 1) = mc_cn p n := by
  show mc_cn p n + (if p n = true then 1 else 0) = _
  rw [if_neg h, Nat.add_zero]
theorem mc_cn_le (p : Nat → Bool) (n : Nat) : mc_cn p n ≤ n := by
  induction n with
  | zero => exact Nat.le_refl _
  | succ n ih =>
    by_cases h : p n = true
    · rw [mc_cn_t h]; omega
    · rw [mc_cn_f h]; omega
theorem mc_cn_congr {p q : Nat → Bool} {n : Nat} (h : ∀ i, i < n → p i = q i) : mc_cn p n = mc_cn q n := by
  induction n with
  | zero => rfl
  | succ n ih =>
    have e := ih (fun i hi => h i (by omega))
    have e2 := h n (by omega)
    show mc_cn p n + (if p n = true then 1 else 0) = mc_cn q n + (if q n = true then 1 else 0)
    rw [e, e2]
theorem mc_cn_step (p : Nat → Bool) (n : Nat) : mc_cn p n ≤ mc_cn p (n + 1) := Nat.le_add_right _ _
theorem mc_cn_mono (p : Nat → Bool) {m n : Nat} (h : m ≤ n) : mc_cn p m ≤ mc_cn p n := by
  obtain ⟨d, rfl⟩ : ∃ d, n = m + d := ⟨n - m, by omega⟩
  clear h
  induction d with
  | zero => exact Nat.le_refl _
  | succ d ih => exact Nat.le_trans ih (mc_cn_step p (m + d))
theorem mc_cn_imp {p q : Nat → Bool} {n : Nat} (h : ∀ i, i < n → p i = true → q i = true) : mc_cn p n ≤ mc_cn q n := by
  induction n with
  | zero => exact Nat.le_refl _
  | succ n ih =>
    have e := ih (fun i hi => h i (by omega))
    by_cases hp : p n = true
    · rw [mc_cn_t hp, mc_cn_t (h n (by omega) hp)]; omega
    · rw [mc_cn_f hp]; exact Nat.le_trans e (mc_cn_step q n)
theorem mc_cn_lt {p q : Nat → Bool} {n : Nat} (h : ∀ i, i < n → p i = true → q i = true) {j : Nat} (hj : j < n) (hq : q j = true) (hp : p j = false) : mc_cn p n < mc_cn q n := by
  induction n with
  | zero => omega
  | succ n ih =>
    by_cases e : j = n
    · subst e
      have i1 := mc_cn_imp (n := j) (fun i hi => h i (by omega))
      have hp' : ¬ p j = true := by rw [hp]; decide
      rw [mc_cn_t hq, mc_cn_f hp']; omega
    · have i1 := ih (fun i hi => h i (by omega)) (by omega)
      by_cases hp2 : p n = true
      · rw [mc_cn_t hp2, mc_cn_t (h n (by omega) hp2)]; omega
      · rw [mc_cn_f hp2]; exact Nat.lt_of_lt_of_le i1 (mc_cn_step q n)
theorem mc_cn_pos {p : Nat → Bool} {n j : Nat} (hj : j < n) (hp : p j = true) : 0 < mc_cn p n := by
  have h1 := mc_cn_t hp
  have h2 := mc_cn_mono p (show j + 1 ≤ n by omega)
  omega
theorem mc_cn_zero {p : Nat → Bool} {n : Nat} (h : ∀ i, i < n → p i = false) : mc_cn p n = 0 := by
  induction n with
  | zero => rfl
  | succ n ih =>
    have hp' : ¬ p n = true := by rw [h n (by omega)]; decide
    rw [mc_cn_f hp']; exact ih (fun i hi => h i (by omega))
theorem mc_cn_z {p : Nat → Bool} {n : Nat} (h : mc_cn p n = 0) {i : Nat} (hi : i < n) : p i = false := by
  by_cases hp : p i = true
  · have := mc_cn_pos hi hp; omega
  · exact Bool.eq_false_iff.mpr hp
theorem mc_cn_same {p q : Nat → Bool} {n : Nat} (h : ∀ i, i < n → p i = true → q i = true) (e : mc_cn p n = mc_cn q n) {i : Nat} (hi : i < n) (hq : q i = true) : p i = true := by
  by_cases hp : p i = true
  · exact hp
  · have := mc_cn_lt h hi hq (Bool.eq_false_iff.mpr hp); omega
def mc_rng (p : Nat → Bool) (lo hi : Nat) : Nat → Bool := fun b => p b && (decide (lo ≤ b) && decide (b < hi))
theorem mc_rng_in {p : Nat → Bool} {lo hi b : Nat} (h1 : lo ≤ b) (h2 : b < hi) : mc_rng p lo hi b = p b := by
  show (p b && (decide (lo ≤ b) && decide (b < hi))) = p b
  rw [decide_eq_true h1, decide_eq_true h2, Bool.and_self, Bool.and_true]
theorem mc_rng_lo {p : Nat → Bool} {lo hi b : Nat} (h1 : ¬ lo ≤ b) : mc_rng p lo hi b = false := by
  show (p b && (decide (lo ≤ b) && decide (b < hi))) = false
  rw [decide_eq_false h1, Bool.false_and, Bool.and_false]
theorem mc_rng_hi {p : Nat → Bool} {lo hi b : Nat} (h1 : ¬ b < hi) : mc_rng p lo hi b = false := by
  show (p b && (decide (lo ≤ b) && decide (b < hi))) = false
  rw [decide_eq_false h1, Bool.and_false, Bool.and_false]
theorem mc_cn_rng_mid (p : Nat → Bool) {lo hi : Nat} : ∀ d, lo + d ≤ hi → mc_cn (mc_rng p lo hi) (lo + d) + mc_cn p lo = mc_cn p (lo + d) := by
  intro d
  induction d with
  | zero =>
    intro _
    have z : mc_cn (mc_rng p lo hi) lo = 0 := mc_cn_zero (fun i hi' => mc_rng_lo (by omega))
    rw [Nat.add_zero, z]; omega
  | succ d ih =>
    intro h
    have e := ih (by omega)
    have q : mc_rng p lo hi (lo + d) = p (lo + d) := mc_rng_in (by omega) (by omega)
    by_cases hp : p (lo + d) = true
    · rw [← Nat.add_assoc, mc_cn_t hp, mc_cn_t (q.trans hp)]; omega
    · have hq : ¬ mc_rng p lo hi (lo + d) = true := fun z => hp (q.symm.trans z)
      rw [← Nat.add_assoc, mc_cn_f hp, mc_cn_f hq]; omega
theorem mc_cn_rng_hi (p : Nat → Bool) {lo hi : Nat} : ∀ d, mc_cn (mc_rng p lo hi) (hi + d) = mc_cn (mc_rng p lo hi) hi := by
  intro d
  induction d with
  | zero => rfl
  | succ d ih =>
    have hq : ¬ mc_rng p lo hi (hi + d) = true := by rw [mc_rng_hi (show ¬ hi + d < hi by omega)]; decide
    rw [← Nat.add_assoc, mc_cn_f hq, ih]
/-- those between two borders -/
theorem mc_cn_rng (p : Nat → Bool) {lo hi n : Nat} (h : lo ≤ hi) (hn : hi ≤ n) : mc_cn (mc_rng p lo hi) n + mc_cn p lo = mc_cn p hi := by
  obtain ⟨d, rfl⟩ : ∃ d, n = hi + d := ⟨n - hi, by omega⟩
  obtain ⟨e, rfl⟩ : ∃ e, hi = lo + e := ⟨hi - lo, by omega⟩
  rw [mc_cn_rng_hi]
  exact mc_cn_rng_mid p e (Nat.le_refl _)
/-! sums -/
theorem mc_bs_congr {f g : Nat → Int32} {n : Nat} (h : ∀ i, i < n → f i = g i) : bx_sum f n = bx_sum g n := by
  induction n with
  | zero => rfl
  | succ n ih =>
    show bx_sum f n + f n = bx_sum g n + g n
    rw [ih (fun i hi => h i (by omega)), h n (by omega)]
theorem mc_bs_ind (p : Nat → Bool) (n : Nat) : bx_sum (fun a => if p a = true then 1 else 0) n = nI (mc_cn p n) := by
  induction n with
  | zero => rfl
  | succ n ih =>
    show bx_sum _ n + (if p n = true then 1 else 0) = _
    rw [ih]
    by_cases h : p n = true
    · rw [mc_cn_t h, if_pos h, nI_1]
    · rw [mc_cn_f h, if_neg h, Int32.add_zero]
theorem mc_bs_add (f g : Nat → Int32) (n : Nat) : bx_sum (fun i => f i + g i) n = bx_sum f n + bx_sum g n := by
  induction n with
  | zero => rfl
  | succ n ih =>
    show bx_sum _ n + (f n + g n) = (bx_sum f n + f n) + (bx_sum g n + g n)
    rw [ih]
    grind
theorem mc_bs_mul (f : Nat → Int32) (c : Int32) (n : Nat) : bx_sum (fun i => f i * c) n = bx_sum f n * c := by
  induction n with
  | zero => show (0 : Int32) = 0 * c; grind
  | succ n ih =>
    show bx_sum _ n + f n * c = (bx_sum f n + f n) * c
    rw [ih]
    grind
theorem mc_bs_split (f : Nat → Int32) (m n : Nat) : bx_sum f (m + n) = bx_sum f m + bx_sum (fun i => f (m + i)) n := by
  induction n with
  | zero => show bx_sum f m = bx_sum f m + 0; rw [Int32.add_zero]
  | succ n ih =>
    show bx_sum f (m + n) + f (m + n) = bx_sum f m + (bx_sum (fun i => f (m + i)) n + f (m + n))
    rw [ih, Int32.add_assoc]
theorem mc_bs_zero {f : Nat → Int32} {n : Nat} (h : ∀ i, i < n → f i = 0) : bx_sum f n = 0 := by
  induction n with
  | zero => rfl
  | succ n ih =>
    show bx_sum f n + f n = 0
    rw [ih (fun i hi => h i (by omega)), h n (by omega)]; rfl
/-- the sum over all numbers whose bits from k on are those of q -/
def mc_T (g : Nat → Int32) : Nat → Nat → Int32
  | 0, q => g q
  | k + 1, q => mc_T g k (2 * q + 1) + mc_T g k (2 * q)
theorem mc_T_eq (g : Nat → Int32) : ∀ k q, mc_T g k q = bx_sum (fun i => g (q * 2 ^ k + i)) (2 ^ k) := by
  intro k
  induction k with
  | zero =>
    intro q
    show g q = 0 + g (q * 1 + 0)
    rw [Int32.zero_add, Nat.mul_one, Nat.add_zero]
  | succ k ih =>
    intro q
    show mc_T g k (2 * q + 1) + mc_T g k (2 * q) = _
    have e : 2 ^ (k + 1) = 2 ^ k + 2 ^ k := by rw [Nat.pow_succ]; omega
    rw [ih, ih, e, mc_bs_split _ (2 ^ k) (2 ^ k), Int32.add_comm]
    congr 1
    · exact mc_bs_congr (fun i _ => congrArg g (by rw [Nat.mul_add, Nat.mul_comm 2 q, Nat.mul_assoc, Nat.two_mul, Nat.mul_add]))
    · exact mc_bs_congr (fun i _ => congrArg g (by rw [Nat.mul_add, Nat.add_mul, Nat.mul_comm 2 q, Nat.mul_assoc, Nat.two_mul, Nat.mul_add]; omega))
theorem mc_T_256 (g : Nat → Int32) : mc_T g 8 0 = bx_sum g 256 := by
  rw [mc_T_eq]
  exact mc_bs_congr (fun i _ => congrArg g (by omega))
end
section
/-! decision sums: over the assignments of the variables of V that lie below k, in any R -/
def mc_set (a : Nat → Bool) (v : Nat) (b : Bool) : Nat → Bool := fun j => if j = v then b else a j
theorem mc_set_s {a : Nat → Bool} {v : Nat} {b : Bool} : mc_set a v b v = b := if_pos rfl
theorem mc_set_n {a : Nat → Bool} {v j : Nat} {b : Bool} (h : j ≠ v) : mc_set a v b j = a j := if_neg h
theorem mc_set_comm {a : Nat → Bool} {u v : Nat} {b c : Bool} (h : u ≠ v) : mc_set (mc_set a u b) v c = mc_set (mc_set a v c) u b := by
  funext j
  by_cases h1 : j = v
  · subst h1; rw [mc_set_s, mc_set_n (fun e => h e.symm), mc_set_s]
  · by_cases h2 : j = u
    · subst h2; rw [mc_set_n h, mc_set_s, mc_set_s]
    · rw [mc_set_n h1, mc_set_n h2, mc_set_n h2, mc_set_n h1]
def mc_sv {R : Type} (D : Nat → R → R → R) (E : Bool → R) (V : Nat → Bool) (f : (Nat → Bool) → Bool) : Nat → (Nat → Bool) → R
  | 0, a => E (f a)
  | k + 1, a => if V k = true then D k (mc_sv D E V f k (mc_set a k true)) (mc_sv D E V f k (mc_set a k false)) else mc_sv D E V f k a
section
variable {R : Type} {D : Nat → R → R → R} {E : Bool → R}
theorem mc_sv_t {V : Nat → Bool} {f : (Nat → Bool) → Bool} {k : Nat} (h : V k = true) (a : Nat → Bool) : mc_sv D E V f (k + 1) a = D k (mc_sv D E V f k (mc_set a k true)) (mc_sv D E V f k (mc_set a k false)) := if_pos h
theorem mc_sv_f {V : Nat → Bool} {f : (Nat → Bool) → Bool} {k : Nat} (h : ¬ V k = true) (a : Nat → Bool) : mc_sv D E V f (k + 1) a = mc_sv D E V f k a := if_neg h
/-- only the assignments that agree with a outside V count -/
theorem mc_sv_congr {V : Nat → Bool} {f g : (Nat → Bool) → Bool} (k : Nat) : ∀ a : Nat → Bool, (∀ b : Nat → Bool, (∀ j, V j = false → b j = a j) → f b = g b) → mc_sv D E V f k a = mc_sv D E V g k a := by
  induction k with
  | zero => intro a h; exact congrArg E (h a (fun _ _ => rfl))
  | succ k ih =>
    intro a h
    by_cases hv : V k = true
    · have e : ∀ t : Bool, mc_sv D E V f k (mc_set a k t) = mc_sv D E V g k (mc_set a k t) := fun t =>
        ih _ (fun b hb => h b (fun j hj => by
          rw [hb j hj]
          exact mc_set_n (fun z => by rw [z, hv] at hj; exact absurd hj (by decide))))
      rw [mc_sv_t hv, mc_sv_t hv, e, e]
    · rw [mc_sv_f hv, mc_sv_f hv]
      exact ih a h
/-- the set of variables matters only below k -/
theorem mc_sv_V {V U : Nat → Bool} {f : (Nat → Bool) → Bool} (k : Nat) : ∀ a : Nat → Bool, (∀ j, j < k → V j = U j) → mc_sv D E V f k a = mc_sv D E U f k a := by
  induction k with
  | zero => intro a _; rfl
  | succ k ih =>
    intro a h
    have e := h k (by omega)
    by_cases hv : V k = true
    · have hu : U k = true := e.symm.trans hv
      have i1 : ∀ b, mc_sv D E V f k b = mc_sv D E U f k b := fun b => ih b (fun j hj => h j (by omega))
      rw [mc_sv_t hv, mc_sv_t hu, i1, i1]
    · have hu : ¬ U k = true := fun z => hv (e.trans z)
      have i1 : ∀ b, mc_sv D E V f k b = mc_sv D E U f k b := fun b => ih b (fun j hj => h j (by omega))
      rw [mc_sv_f hv, mc_sv_f hu, i1]
/-- if f looks at V alone, the base doesn't matter below k -/
theorem mc_sv_base {V : Nat → Bool} {f : (Nat → Bool) → Bool} (hf : ∀ a b : Nat → Bool, (∀ j, V j = true → a j = b j) → f a = f b) (k : Nat) : ∀ a b : Nat → Bool, (∀ j, k ≤ j → V j = true → a j = b j) → mc_sv D E V f k a = mc_sv D E V f k b := by
  induction k with
  | zero => intro a b h; exact congrArg E (hf a b (fun j hj => h j (Nat.zero_le _) hj))
  | succ k ih =>
    intro a b h
    by_cases hv : V k = true
    · have e : ∀ t : Bool, mc_sv D E V f k (mc_set a k t) = mc_sv D E V f k (mc_set b k t) := fun t =>
        ih _ _ (fun j hj hvj => by
          by_cases hjk : j = k
          · subst hjk; rw [mc_set_s, mc_set_s]
          · rw [mc_set_n hjk, mc_set_n hjk]; exact h j (by omega) hvj)
      rw [mc_sv_t hv, mc_sv_t hv, e, e]
    · rw [mc_sv_f hv, mc_sv_f hv]
      refine ih _ _ (fun j hj hvj => ?_)
      by_cases hjk : j = k
      · subst hjk; exact absurd hvj hv
      · exact h j (by omega) hvj
/-- a variable is decided first -/
theorem mc_sv_dec (hD : ∀ u v x y z w, D u (D v x y) (D v z w) = D v (D u x z) (D u y w)) {V U : Nat → Bool} {f : (Nat → Bool) → Bool} {v : Nat} (hv : V v = true) (hU : ∀ j, U j = (V j && decide (j ≠ v))) (k : Nat) : ∀ a : Nat → Bool, v < k → mc_sv D E V f k a = D v (mc_sv D E U f k (mc_set a v true)) (mc_sv D E U f k (mc_set a v false)) := by
  induction k with
  | zero => intro a h; omega
  | succ k ih =>
    intro a h
    by_cases e : v = k
    · subst e
      have hu : ¬ U v = true := by rw [hU, decide_eq_false (fun z => z rfl), Bool.and_false]; decide
      have e2 : ∀ b, mc_sv D E V f v b = mc_sv D E U f v b := fun b => mc_sv_V v b (fun j hj => by rw [hU, decide_eq_true (show j ≠ v by omega), Bool.and_true])
      rw [mc_sv_t hv, mc_sv_f hu, mc_sv_f hu, e2, e2]
    · have hk : k ≠ v := fun z => e z.symm
      have hu : U k = V k := by rw [hU, decide_eq_true hk, Bool.and_true]
      by_cases hvk : V k = true
      · have huk : U k = true := by rw [hu]; exact hvk
        rw [mc_sv_t hvk, mc_sv_t huk, mc_sv_t huk, ih _ (by omega), ih _ (by omega), hD]
        rw [mc_set_comm hk, mc_set_comm hk, mc_set_comm hk, mc_set_comm hk]
      · have huk : ¬ U k = true := by rw [hu]; exact hvk
        rw [mc_sv_f hvk, mc_sv_f huk, mc_sv_f huk, ih _ (by omega)]
/-- two parts side by side -/
theorem mc_sv_two {B : R → R → R} (hE : ∀ p q, B (E p) (E q) = E (p && q)) (hl : ∀ v x y z, B (D v x y) z = D v (B x z) (B y z)) (hr : ∀ v x y z, B x (D v y z) = D v (B x y) (B x z)) {V V1 V2 : Nat → Bool} {f f1 f2 : (Nat → Bool) → Bool}
    (hV : ∀ j, V j = (V1 j || V2 j)) (hd : ∀ j, V1 j = true → V2 j = true → False) (hf : ∀ a, f a = (f1 a && f2 a))
    (h1 : ∀ a b : Nat → Bool, (∀ j, V1 j = true → a j = b j) → f1 a = f1 b) (h2 : ∀ a b : Nat → Bool, (∀ j, V2 j = true → a j = b j) → f2 a = f2 b) (k : Nat) :
    ∀ a : Nat → Bool, mc_sv D E V f k a = B (mc_sv D E V1 f1 k a) (mc_sv D E V2 f2 k a) := by
  induction k with
  | zero =>
    intro a
    show E (f a) = B (E (f1 a)) (E (f2 a))
    rw [hE, hf]
  | succ k ih =>
    intro a
    by_cases hv1 : V1 k = true
    · have hv2 : ¬ V2 k = true := fun z => hd k hv1 z
      have hv : V k = true := by rw [hV, hv1]; rfl
      have e : ∀ t, mc_sv D E V2 f2 k (mc_set a k t) = mc_sv D E V2 f2 k a := fun t =>
        mc_sv_base h2 k _ _ (fun j hj hvj => mc_set_n (fun z => by rw [z] at hvj; exact hv2 hvj))
      rw [mc_sv_t hv, mc_sv_t hv1, mc_sv_f hv2, ih, ih, hl, e, e]
    · by_cases hv2 : V2 k = true
      · have hv : V k = true := by rw [hV, hv2, Bool.or_true]
        have e : ∀ t, mc_sv D E V1 f1 k (mc_set a k t) = mc_sv D E V1 f1 k a := fun t =>
          mc_sv_base h1 k _ _ (fun j hj hvj => mc_set_n (fun z => by rw [z] at hvj; exact hv1 hvj))
        rw [mc_sv_t hv, mc_sv_t hv2, mc_sv_f hv1, ih, ih, hr, e, e]
      · have hv : ¬ V k = true := by rw [hV, Bool.eq_false_iff.mpr hv1, Bool.eq_false_iff.mpr hv2]; decide
        rw [mc_sv_f hv, mc_sv_f hv1, mc_sv_f hv2, ih]
/-- nothing to satisfy -/
def mc_fr (D : Nat → R → R → R) (x : R) (V : Nat → Bool) : Nat → R
  | 0 => x
  | k + 1 => if V k = true then D k (mc_fr D x V k) (mc_fr D x V k) else mc_fr D x V k
theorem mc_sv_const {V : Nat → Bool} {f : (Nat → Bool) → Bool} {t : Bool} (hf : ∀ a, f a = t) (k : Nat) : ∀ a : Nat → Bool, mc_sv D E V f k a = mc_fr D (E t) V k := by
  induction k with
  | zero => intro a; exact congrArg E (hf a)
  | succ k ih =>
    intro a
    show (if V k = true then D k (mc_sv D E V f k (mc_set a k true)) (mc_sv D E V f k (mc_set a k false)) else mc_sv D E V f k a) = if V k = true then D k (mc_fr D (E t) V k) (mc_fr D (E t) V k) else mc_fr D (E t) V k
    rw [ih, ih, ih]
theorem mc_fr_z {x : R} (h : ∀ k, D k x x = x) (V : Nat → Bool) (k : Nat) : mc_fr D x V k = x := by
  induction k with
  | zero => rfl
  | succ k ih =>
    show (if V k = true then D k (mc_fr D x V k) (mc_fr D x V k) else mc_fr D x V k) = x
    rw [ih, h, ite_self]
end
end
section
/-! bits of masks -/
theorem mc_bit1 (j : Nat) : bt 1 j = decide (j = 0) := by
  rcases Nat.lt_or_ge j 32 with h | h
  · exact (by decide +kernel : ∀ j, j < 32 → bt 1 j = decide (j = 0)) j h
  · rw [b_big h, decide_eq_false (by omega)]
theorem mc_b1 (x : Int32) {i : Nat} (hi : i < 32) : (x >>> (nI i &&& 31)) &&& 1 = if bt x i = true then 1 else 0 := by
  apply b_ext
  intro j hj
  rw [b_and, b_sshr i hi x hj, mc_bit1]
  by_cases h0 : j = 0
  · subst h0
    rw [Nat.add_zero, if_pos hi, decide_eq_true rfl, Bool.and_true]
    cases h : bt x i
    · rw [if_neg (by decide)]; exact (b_0 0).symm
    · rw [if_pos rfl, mc_bit1]; rfl
  · rw [decide_eq_false h0, Bool.and_false]
    by_cases h : bt x i = true
    · rw [if_pos h, mc_bit1, decide_eq_false h0]
    · rw [if_neg h, b_0]
theorem mc_b1_t {x : Int32} {i : Nat} (hi : i < 32) (h : bt x i = true) : (x >>> (nI i &&& 31)) &&& 1 = 1 := by rw [mc_b1 x hi, if_pos h]
theorem mc_b1_f {x : Int32} {i : Nat} (hi : i < 32) (h : ¬ bt x i = true) : (x >>> (nI i &&& 31)) &&& 1 = 0 := by rw [mc_b1 x hi, if_neg h]
theorem mc_b1_iff {x : Int32} {i : Nat} (hi : i < 32) : (x >>> (nI i &&& 31)) &&& 1 = 1 ↔ bt x i = true := by
  rw [mc_b1 x hi]
  by_cases h : bt x i = true
  · rw [if_pos h]; exact ⟨fun _ => h, fun _ => rfl⟩
  · rw [if_neg h]; exact ⟨fun z => absurd z (by decide), fun z => absurd z h⟩
theorem mc_b0_iff {x : Int32} {i : Nat} (hi : i < 32) : (x >>> (nI i &&& 31)) &&& 1 = 0 ↔ bt x i = false := by
  rw [mc_b1 x hi]
  by_cases h : bt x i = true
  · rw [if_pos h]; exact ⟨fun z => absurd z (by decide), fun z => by rw [z] at h; exact absurd h (by decide)⟩
  · rw [if_neg h]; exact ⟨fun _ => Bool.eq_false_iff.mpr h, fun _ => rfl⟩
theorem mc_shl1 {i : Nat} (hi : i < 32) (j : Nat) : bt ((1 : Int32) <<< (nI i &&& 31)) j = decide (j = i) := by
  rcases Nat.lt_or_ge j 32 with h | h
  · rw [b_shl i hi 1 h, mc_bit1]
    by_cases e : j = i
    · subst e; simp
    · by_cases l : i ≤ j
      · rw [decide_eq_false (show ¬ j - i = 0 by omega), Bool.and_false, decide_eq_false e]
      · rw [decide_eq_false l, Bool.false_and, decide_eq_false e]
  · rw [b_big h, decide_eq_false (by omega)]
theorem mc_not (x y : Int32) (j : Nat) : bt (x &&& (y ^^^ (-1))) j = (bt x j && !bt y j) := by
  rcases Nat.lt_or_ge j 32 with h | h
  · rw [b_and, b_xor, b_m1 j h, Bool.xor_true]
  · rw [b_big h, b_big h, Bool.false_and]
theorem mc_z {x : Int32} : x = 0 ↔ ∀ i, bt x i = false := by
  constructor
  · intro h i; rw [h, b_0]
  · intro h; exact b_ext (fun i _ => by rw [h, b_0])
theorem mc_ext {x y : Int32} (h : ∀ i, bt x i = bt y i) : x = y := b_ext (fun i _ => h i)
theorem mc_bn {a : Nat} (ha : a < 2 ^ 31) (j : Nat) : bt (nI a) j = a.testBit j := by
  show (BitVec.ofNat 32 a).getLsbD j = a.testBit j
  rw [BitVec.getLsbD_ofNat]
  rcases Nat.lt_or_ge j 32 with h | h
  · rw [decide_eq_true h, Bool.true_and]
  · have : a.testBit j = false := Nat.testBit_lt_two_pow (Nat.lt_of_lt_of_le ha (Nat.pow_le_pow_right (by decide) (by omega)))
    rw [this, Bool.and_false]
theorem mc_full : ∀ n, n < 15 → ∀ j, bt (((1 : Int32) <<< (nI n &&& 31)) - 1) j = decide (j < n) := by
  intro n hn j
  rcases Nat.lt_or_ge j 32 with h | h
  · exact (by decide +kernel : ∀ n, n < 15 → ∀ j, j < 32 → bt (((1 : Int32) <<< (nI n &&& 31)) - 1) j = decide (j < n)) n hn j h
  · rw [b_big h, decide_eq_false (by omega)]
theorem mc_tb8 {a : Nat} (ha : a < 256) {j : Nat} (hj : 8 ≤ j) : a.testBit j = false :=
  Nat.testBit_lt_two_pow (Nat.lt_of_lt_of_le (show a < 2 ^ 8 from ha) (Nat.pow_le_pow_right (by decide) hj))
/-- a mask of eight bits is a small number -/
theorem mc_small {x : Int32} (h : ∀ j, 8 ≤ j → bt x j = false) : ∃ a, a < 256 ∧ x = nI a := by
  have e : x &&& 255 = x := mc_ext (fun i => by
    rw [b_and, b_255]
    by_cases hi : i < 8
    · rw [decide_eq_true hi, Bool.and_true]
    · rw [h i (by omega), Bool.false_and])
  obtain ⟨a, ha, ea⟩ := pk_andE x (m := 255) 8 (by decide)
  exact ⟨a, ha, e.symm.trans ea⟩
/-- the number of its bits below eight -/
def mc_pop (x : Int32) : Nat := mc_cn (bt x) 8
theorem mc_pop_le (x : Int32) : mc_pop x ≤ 8 := mc_cn_le _ _
theorem mc_pop_pos {x : Int32} (h8 : ∀ j, 8 ≤ j → bt x j = false) (h : x ≠ 0) : 0 < mc_pop x := by
  rcases Nat.eq_zero_or_pos (mc_pop x) with z | z
  · exact absurd (mc_z.mpr (fun i => by
      rcases Nat.lt_or_ge i 8 with hi | hi
      · exact mc_cn_z z hi
      · exact h8 i hi)) h
  · exact z
/-- a proper part has fewer -/
theorem mc_pop_lt {x y : Int32} (h8 : ∀ j, 8 ≤ j → bt y j = false) (hs : ∀ j, bt x j = true → bt y j = true) (h : x ≠ y) : mc_pop x < mc_pop y := by
  have h1 := mc_cn_imp (n := 8) (fun i _ => hs i)
  rcases Nat.lt_or_ge (mc_cn (bt x) 8) (mc_cn (bt y) 8) with z | z
  · exact z
  · exfalso
    apply h
    apply mc_ext
    intro i
    rcases Nat.lt_or_ge i 8 with hi | hi
    · cases hx : bt x i
      · cases hy : bt y i
        · rfl
        · have := mc_cn_same (n := 8) (fun i _ => hs i) (by omega) hi hy
          rw [hx] at this; exact absurd this (by decide)
      · rw [hs i hx]
    · rw [h8 i hi]
      cases hx : bt x i
      · rfl
      · have := hs i hx; rw [h8 i hi] at this; exact absurd this (by decide)
end
section
/-! what a node stands for -/
/-- a clause with positive mask P, negative mask N, looked at within V, under a -/
def mc_cl (P N V : Int32) (a : Nat → Bool) : Prop := ∃ v, v < 8 ∧ bt V v = true ∧ ((bt P v = true ∧ a v = true) ∨ (bt N v = true ∧ a v = false))
def mc_M (n : Nat) (ap an : Nat → Int32) (V C : Int32) (a : Nat → Bool) : Prop := ∀ c, c < n → bt C c = true → mc_cl (ap c) (an c) V a
noncomputable def mc_dec (P : Prop) : Bool := @decide P (Classical.propDecidable P)
theorem mc_dec_iff {P : Prop} : mc_dec P = true ↔ P := @decide_eq_true_iff P (Classical.propDecidable P)
theorem mc_dec_f {P : Prop} (h : ¬ P) : mc_dec P = false := @decide_eq_false P (Classical.propDecidable P) h
theorem mc_dec_t {P : Prop} (h : P) : mc_dec P = true := mc_dec_iff.mpr h
theorem mc_dec_congr {P Q : Prop} (h : P ↔ Q) : mc_dec P = mc_dec Q := by rw [propext h]
theorem mc_dec_and {P Q : Prop} : mc_dec (P ∧ Q) = (mc_dec P && mc_dec Q) := by
  by_cases p : P
  · by_cases q : Q
    · rw [mc_dec_t p, mc_dec_t q, mc_dec_t ⟨p, q⟩]; rfl
    · rw [mc_dec_f q, mc_dec_f (fun z => q z.2), Bool.and_false]
  · rw [mc_dec_f p, mc_dec_f (fun z => p z.1), Bool.false_and]
noncomputable def mc_m (n : Nat) (ap an : Nat → Int32) (V C : Int32) (a : Nat → Bool) : Bool := mc_dec (mc_M n ap an V C a)
theorem mc_m_dep {n : Nat} {ap an : Nat → Int32} {V C : Int32} (a b : Nat → Bool) (h : ∀ j, bt V j = true → a j = b j) : mc_m n ap an V C a = mc_m n ap an V C b := by
  refine mc_dec_congr ⟨fun H c hc hb => ?_, fun H c hc hb => ?_⟩
  · obtain ⟨v, hv, hV, hl⟩ := H c hc hb
    exact ⟨v, hv, hV, by rw [← h v hV]; exact hl⟩
  · obtain ⟨v, hv, hV, hl⟩ := H c hc hb
    exact ⟨v, hv, hV, by rw [h v hV]; exact hl⟩
/-- the masks of clause c -/
def mc_li (ap an : Nat → Int32) (c : Nat) : Int32 := ap c ||| an c
theorem mc_cl_in {ap an : Nat → Int32} {V : Int32} {a : Nat → Bool} {c : Nat} (h : mc_cl (ap c) (an c) V a) : ∃ v, v < 8 ∧ bt V v = true ∧ bt (mc_li ap an c) v = true ∧ ((bt (ap c) v = true ∧ a v = true) ∨ (bt (an c) v = true ∧ a v = false)) := by
  obtain ⟨v, hv, hV, hl⟩ := h
  refine ⟨v, hv, hV, ?_, hl⟩
  show bt (ap c ||| an c) v = true
  rw [b_or]
  rcases hl with ⟨h1, _⟩ | ⟨h1, _⟩
  · rw [h1]; rfl
  · rw [h1, Bool.or_true]
theorem mc_cl_mono {P N V U : Int32} {a : Nat → Bool} (h : ∀ v, bt V v = true → bt U v = true) (H : mc_cl P N V a) : mc_cl P N U a := by
  obtain ⟨v, hv, hV, hl⟩ := H
  exact ⟨v, hv, h v hV, hl⟩
theorem mc_and0 {x V : Int32} : x &&& V = 0 ↔ ∀ i, bt x i = true → bt V i = true → False := by
  rw [mc_z]
  constructor
  · intro h i h1 h2
    have := h i
    rw [b_and, h1, h2] at this
    exact absurd this (by decide)
  · intro h i
    rw [b_and]
    cases h1 : bt x i
    · rfl
    · cases h2 : bt V i
      · rfl
      · exact absurd (h i h1 h2) id
theorem mc_and1 {x V : Int32} (h : ¬ x &&& V = 0) : ∃ i, bt x i = true ∧ bt V i = true := by
  apply Classical.byContradiction
  intro H
  exact h (mc_and0.mpr (fun i h1 h2 => H ⟨i, h1, h2⟩))
section
variable {n : Nat} {ap an : Nat → Int32} {V C : Int32}
theorem mc_never {c : Nat} (hc : c < n) (hb : bt C c = true) (h0 : mc_li ap an c &&& V = 0) (a : Nat → Bool) : mc_m n ap an V C a = false := by
  refine mc_dec_f (fun H => ?_)
  obtain ⟨v, hv, hV, hl, _⟩ := mc_cl_in (H c hc hb)
  exact mc_and0.mp h0 v hl hV
theorem mc_always (h0 : C = 0) (a : Nat → Bool) : mc_m n ap an V C a = true := by
  refine mc_dec_t (fun c hc hb => ?_)
  rw [h0, b_0] at hb
  exact absurd hb (by decide)
/-- a clause whose literals meet P lies in P within V -/
def mc_clo (n : Nat) (ap an : Nat → Int32) (V C P : Int32) : Prop := ∀ c, c < n → bt C c = true → ¬ mc_li ap an c &&& P = 0 → ∀ v, bt (mc_li ap an c) v = true → bt V v = true → bt P v = true
theorem mc_beside {P O U Q : Int32} (hP : ∀ v, bt P v = true → bt V v = true) (hc : mc_clo n ap an V C P)
    (hO : ∀ c, c < n → (bt O c = true ↔ bt C c = true ∧ ¬ mc_li ap an c &&& P = 0)) (hU : ∀ v, bt U v = (bt V v && !bt P v)) (hQ : ∀ c, bt Q c = (bt C c && !bt O c)) (a : Nat → Bool) :
    mc_m n ap an V C a = (mc_m n ap an P O a && mc_m n ap an U Q a) := by
  unfold mc_m
  rw [← mc_dec_and]
  refine mc_dec_congr ⟨fun H => ⟨fun c h hb => ?_, fun c h hb => ?_⟩, fun H c h hb => ?_⟩
  · obtain ⟨h1, h2⟩ := (hO c h).mp hb
    obtain ⟨v, hv, hV, hl, hx⟩ := mc_cl_in (H c h h1)
    exact ⟨v, hv, hc c h h1 h2 v hl hV, hx⟩
  · rw [hQ] at hb
    have hC : bt C c = true := by
      cases e : bt C c
      · rw [e, Bool.false_and] at hb; exact absurd hb (by decide)
      · rfl
    have hN : ¬ bt O c = true := by
      intro e; rw [e, Bool.not_true, Bool.and_false] at hb; exact absurd hb (by decide)
    have h2 : mc_li ap an c &&& P = 0 := Classical.byContradiction (fun z => hN ((hO c h).mpr ⟨hC, z⟩))
    obtain ⟨v, hv, hV, hl, hx⟩ := mc_cl_in (H c h hC)
    refine ⟨v, hv, ?_, hx⟩
    rw [hU, hV]
    cases e : bt P v
    · rfl
    · exact absurd (mc_and0.mp h2 v hl e) id
  · by_cases e : bt O c = true
    · exact mc_cl_mono hP (H.1 c h e)
    · refine mc_cl_mono (fun v hv => ?_) (H.2 c h (by rw [hQ, hb, Bool.eq_false_iff.mpr e]; rfl))
      rw [hU] at hv
      cases e2 : bt V v
      · rw [e2, Bool.false_and] at hv; exact absurd hv (by decide)
      · rfl
theorem mc_deciT {v : Nat} {U CT : Int32} (hv8 : v < 8) (hv : bt V v = true) (hU : ∀ j, bt U j = (bt V j && decide (j ≠ v))) (hT : ∀ c, c < n → bt CT c = (bt C c && !bt (ap c) v)) (a : Nat → Bool) (ha : a v = true) :
    mc_m n ap an V C a = mc_m n ap an U CT a := by
  refine mc_dec_congr ⟨fun H c h hb => ?_, fun H c h hb => ?_⟩
  · rw [hT c h] at hb
    have hC : bt C c = true := by
      cases e : bt C c
      · rw [e, Bool.false_and] at hb; exact absurd hb (by decide)
      · rfl
    have hN : bt (ap c) v = false := by
      cases e : bt (ap c) v
      · rfl
      · rw [e, Bool.not_true, Bool.and_false] at hb; exact absurd hb (by decide)
    obtain ⟨u, hu, hV, hx⟩ := H c h hC
    refine ⟨u, hu, ?_, hx⟩
    rw [hU, hV, Bool.true_and]
    refine decide_eq_true (fun e => ?_)
    subst e
    rcases hx with ⟨x1, _⟩ | ⟨_, x2⟩
    · rw [hN] at x1; exact absurd x1 (by decide)
    · rw [ha] at x2; exact absurd x2 (by decide)
  · by_cases e : bt (ap c) v = true
    · exact ⟨v, hv8, hv, Or.inl ⟨e, ha⟩⟩
    · refine mc_cl_mono (fun j hj => ?_) (H c h (by rw [hT c h, hb, Bool.eq_false_iff.mpr e]; rfl))
      rw [hU] at hj
      cases e2 : bt V j
      · rw [e2, Bool.false_and] at hj; exact absurd hj (by decide)
      · rfl
theorem mc_deciF {v : Nat} {U CF : Int32} (hv8 : v < 8) (hv : bt V v = true) (hU : ∀ j, bt U j = (bt V j && decide (j ≠ v))) (hF : ∀ c, c < n → bt CF c = (bt C c && !bt (an c) v)) (a : Nat → Bool) (ha : a v = false) :
    mc_m n ap an V C a = mc_m n ap an U CF a := by
  refine mc_dec_congr ⟨fun H c h hb => ?_, fun H c h hb => ?_⟩
  · rw [hF c h] at hb
    have hC : bt C c = true := by
      cases e : bt C c
      · rw [e, Bool.false_and] at hb; exact absurd hb (by decide)
      · rfl
    have hN : bt (an c) v = false := by
      cases e : bt (an c) v
      · rfl
      · rw [e, Bool.not_true, Bool.and_false] at hb; exact absurd hb (by decide)
    obtain ⟨u, hu, hV, hx⟩ := H c h hC
    refine ⟨u, hu, ?_, hx⟩
    rw [hU, hV, Bool.true_and]
    refine decide_eq_true (fun e => ?_)
    subst e
    rcases hx with ⟨_, x1⟩ | ⟨x2, _⟩
    · rw [ha] at x1; exact absurd x1 (by decide)
    · rw [hN] at x2; exact absurd x2 (by decide)
  · by_cases e : bt (an c) v = true
    · exact ⟨v, hv8, hv, Or.inr ⟨e, ha⟩⟩
    · refine mc_cl_mono (fun j hj => ?_) (H c h (by rw [hF c h, hb, Bool.eq_false_iff.mpr e]; rfl))
      rw [hU] at hj
      cases e2 : bt V j
      · rw [e2, Bool.false_and] at hj; exact absurd hj (by decide)
      · rfl
end
/-! nodes and the diagram -/
def mc_N2 (n : Nat) (ap an nv nc fi se : Nat → Int32) (N m : Nat) : Prop :=
  ∃ f s, f < N ∧ s < N ∧ fi m = nI f ∧ se m = nI s ∧ mc_pop (nv f) < mc_pop (nv m) ∧ mc_pop (nv s) < mc_pop (nv m) ∧
    (∀ v, bt (nv m) v = (bt (nv f) v || bt (nv s) v)) ∧ (∀ v, bt (nv f) v = true → bt (nv s) v = true → False) ∧
    (∀ a, mc_m n ap an (nv m) (nc m) a = (mc_m n ap an (nv f) (nc f) a && mc_m n ap an (nv s) (nc s) a))
def mc_N3 (n : Nat) (ap an nv nc de fi se : Nat → Int32) (N m : Nat) : Prop :=
  ∃ v f s, v < 8 ∧ f < N ∧ s < N ∧ de m = nI v ∧ fi m = nI f ∧ se m = nI s ∧ mc_pop (nv f) < mc_pop (nv m) ∧ mc_pop (nv s) < mc_pop (nv m) ∧ bt (nv m) v = true ∧
    (∀ j, bt (nv f) j = (bt (nv m) j && decide (j ≠ v))) ∧ (∀ j, bt (nv s) j = (bt (nv m) j && decide (j ≠ v))) ∧
    (∀ a : Nat → Bool, a v = true → mc_m n ap an (nv m) (nc m) a = mc_m n ap an (nv f) (nc f) a) ∧
    (∀ a : Nat → Bool, a v = false → mc_m n ap an (nv m) (nc m) a = mc_m n ap an (nv s) (nc s) a)
def mc_Nd (n : Nat) (ap an nv nc kd de fi se : Nat → Int32) (N m : Nat) : Prop :=
  (kd m = 1 ∧ ∀ a, mc_m n ap an (nv m) (nc m) a = false) ∨ (kd m = 0 ∧ ∀ a, mc_m n ap an (nv m) (nc m) a = true) ∨
  (kd m = 2 ∧ mc_N2 n ap an nv nc fi se N m) ∨ (kd m = 3 ∧ mc_N3 n ap an nv nc de fi se N m)
theorem mc_Nd_ext {n : Nat} {ap an nv nc kd de fi se nv' nc' kd' de' fi' se' : Nat → Int32} {N N' m : Nat} (hm : m < N) (hN : N ≤ N') (hv : ∀ i, i < N → nv' i = nv i) (hc : ∀ i, i < N → nc' i = nc i)
    (hk : kd' m = kd m) (hd : de' m = de m) (hf : fi' m = fi m) (hs : se' m = se m) (H : mc_Nd n ap an nv nc kd de fi se N m) : mc_Nd n ap an nv' nc' kd' de' fi' se' N' m := by
  unfold mc_Nd mc_N2 mc_N3
  rw [hk, hv m hm, hc m hm, hd, hf, hs]
  rcases H with H | H | ⟨k2, f, s, h1, h2, h3⟩ | ⟨k3, v, f, s, h0, h1, h2, h3⟩
  · exact Or.inl H
  · exact Or.inr (Or.inl H)
  · refine Or.inr (Or.inr (Or.inl ⟨k2, f, s, Nat.lt_of_lt_of_le h1 hN, Nat.lt_of_lt_of_le h2 hN, ?_⟩))
    rw [hv f h1, hv s h2, hc f h1, hc s h2]
    exact h3
  · refine Or.inr (Or.inr (Or.inr ⟨k3, v, f, s, h0, Nat.lt_of_lt_of_le h1 hN, Nat.lt_of_lt_of_le h2 hN, ?_⟩))
    rw [hv f h1, hv s h2, hc f h1, hc s h2]
    exact h3
/-- the whole diagram -/
def mc_Dg (n : Nat) (ap an nv nc ns kd de fi se : Nat → Int32) (N : Nat) : Prop :=
  0 < N ∧ N ≤ 511 ∧ nv 0 = 255 ∧ nc 0 = ((1 : Int32) <<< (nI n &&& 31)) - 1 ∧ (∀ m, m < N → ns m = nI (mc_pop (nv m))) ∧ (∀ m, m < N → mc_Nd n ap an nv nc kd de fi se N m)
/-! its values -/
noncomputable def mc_val {R : Type} (D : Nat → R → R → R) (E : Bool → R) (n : Nat) (ap an : Nat → Int32) (V C : Int32) : R := mc_sv D E (bt V) (mc_m n ap an V C) 8 (fun _ => false)
section
variable {R : Type} {D : Nat → R → R → R} {E : Bool → R} {n : Nat} {ap an : Nat → Int32}
theorem mc_val_const {V C : Int32} {t : Bool} (h : ∀ a, mc_m n ap an V C a = t) : mc_val D E n ap an V C = mc_fr D (E t) (bt V) 8 := mc_sv_const h 8 _
theorem mc_val_two {B : R → R → R} (hE : ∀ p q, B (E p) (E q) = E (p && q)) (hl : ∀ v x y z, B (D v x y) z = D v (B x z) (B y z)) (hr : ∀ v x y z, B x (D v y z) = D v (B x y) (B x z)) {V C V1 C1 V2 C2 : Int32}
    (hV : ∀ j, bt V j = (bt V1 j || bt V2 j)) (hd : ∀ j, bt V1 j = true → bt V2 j = true → False) (hf : ∀ a, mc_m n ap an V C a = (mc_m n ap an V1 C1 a && mc_m n ap an V2 C2 a)) :
    mc_val D E n ap an V C = B (mc_val D E n ap an V1 C1) (mc_val D E n ap an V2 C2) :=
  mc_sv_two hE hl hr hV hd hf (fun a b h => mc_m_dep a b h) (fun a b h => mc_m_dep a b h) 8 _
theorem mc_val_dec (hD : ∀ u v x y z w, D u (D v x y) (D v z w) = D v (D u x z) (D u y w)) {V C V1 C1 V2 C2 : Int32} {v : Nat} (hv8 : v < 8) (hv : bt V v = true)
    (h1 : ∀ j, bt V1 j = (bt V j && decide (j ≠ v))) (h2 : ∀ j, bt V2 j = (bt V j && decide (j ≠ v)))
    (hT : ∀ a : Nat → Bool, a v = true → mc_m n ap an V C a = mc_m n ap an V1 C1 a) (hF : ∀ a : Nat → Bool, a v = false → mc_m n ap an V C a = mc_m n ap an V2 C2 a) :
    mc_val D E n ap an V C = D v (mc_val D E n ap an V1 C1) (mc_val D E n ap an V2 C2) := by
  unfold mc_val
  have e12 : bt V1 = bt V2 := funext (fun j => (h1 j).trans (h2 j).symm)
  have n1 : bt V1 v = false := by rw [h1, decide_eq_false (fun z => z rfl), Bool.and_false]
  have n2 : bt V2 v = false := by rw [h2, decide_eq_false (fun z => z rfl), Bool.and_false]
  rw [mc_sv_dec hD hv h1 8 _ hv8]
  congr 1
  · refine (mc_sv_congr (g := mc_m n ap an V1 C1) 8 _ (fun b hb => hT b ?_)).trans (mc_sv_base (fun a b h => mc_m_dep a b h) 8 _ _ (fun j hj hvj => ?_))
    · rw [hb v n1, mc_set_s]
    · refine mc_set_n (fun z => ?_); rw [z, n1] at hvj; exact absurd hvj (by decide)
  · rw [e12]
    refine (mc_sv_congr (g := mc_m n ap an V2 C2) 8 _ (fun b hb => hF b ?_)).trans (mc_sv_base (fun a b h => mc_m_dep a b h) 8 _ _ (fun j hj hvj => ?_))
    · rw [hb v n2, mc_set_s]
    · refine mc_set_n (fun z => ?_); rw [z, n2] at hvj; exact absurd hvj (by decide)
end
end
section
/-! the reference: its clauses against the masks -/
def mc_rngd (b : Nat) (f : Nat → Int32) : Prop := ∀ j, ∃ l, l < b ∧ f j = nI l
def mc_L (f : Nat → Int32) (j : Nat) : Nat := (f j).toNatClampNeg
theorem mc_L_of {b : Nat} {f : Nat → Int32} (h : mc_rngd b f) (hb : b < 2 ^ 31) (j : Nat) : mc_L f j < b ∧ f j = nI (mc_L f j) := by
  obtain ⟨l, hl, e⟩ := h j
  have : mc_L f j = l := by show (f j).toNatClampNeg = l; rw [e, nI_clamp (by omega)]
  rw [this]; exact ⟨hl, e⟩
def mc_CR (P N : Int32) (lt : Nat → Int32) (b s : Nat) : Prop :=
  (∀ v, bt P v = true ↔ ∃ i, i < s ∧ mc_L lt (b + i) = 2 * v) ∧ (∀ v, bt N v = true ↔ ∃ i, i < s ∧ mc_L lt (b + i) = 2 * v + 1)
def mc_YR (n : Nat) (ap an lt sz : Nat → Int32) : Prop := n ≤ 14 ∧ mc_rngd 16 lt ∧ mc_rngd 4 sz ∧ ∀ c, c < n → mc_CR (ap c) (an c) lt (3 * c) (mc_L sz c)
/-- the assignment with number a makes all clauses true -/
noncomputable def mc_mt (n : Nat) (ap an : Nat → Int32) (a : Nat) : Bool := mc_dec (∀ c, c < n → mc_cl (ap c) (an c) 255 (fun j => a.testBit j))
theorem mc_10 : ¬ (1 : Int32) = 0 := by decide
theorem mc_20 : ¬ (2 : Int32) = 0 := by decide
/-- a literal l under a -/
def mc_lt (a l : Nat) : Prop := a.testBit (l / 2) ≠ decide (l % 2 = 1)
theorem mc_lt_cl {P N : Int32} {lt : Nat → Int32} {b s a : Nat} (hl : mc_rngd 16 lt) (h : mc_CR P N lt b s) : mc_cl P N 255 (fun j => a.testBit j) ↔ ∃ i, i < s ∧ mc_lt a (mc_L lt (b + i)) := by
  constructor
  · rintro ⟨v, hv, _, ⟨h1, h2⟩ | ⟨h1, h2⟩⟩
    · obtain ⟨i, hi, e⟩ := (h.1 v).mp h1
      refine ⟨i, hi, ?_⟩
      show a.testBit (mc_L lt (b + i) / 2) ≠ decide (mc_L lt (b + i) % 2 = 1)
      rw [e, Nat.mul_div_cancel_left v (by decide), decide_eq_false (show ¬ 2 * v % 2 = 1 by omega)]
      intro z
      have h2' : a.testBit v = true := h2
      rw [z] at h2'; exact absurd h2' (by decide)
    · obtain ⟨i, hi, e⟩ := (h.2 v).mp h1
      refine ⟨i, hi, ?_⟩
      show a.testBit (mc_L lt (b + i) / 2) ≠ decide (mc_L lt (b + i) % 2 = 1)
      rw [e, show (2 * v + 1) / 2 = v by omega, decide_eq_true (show (2 * v + 1) % 2 = 1 by omega)]
      intro z
      have h2' : a.testBit v = false := h2
      rw [z] at h2'; exact absurd h2' (by decide)
  · rintro ⟨i, hi, hx⟩
    have hl' := (mc_L_of hl (by decide) (b + i)).1
    have hx' : a.testBit (mc_L lt (b + i) / 2) ≠ decide (mc_L lt (b + i) % 2 = 1) := hx
    refine ⟨mc_L lt (b + i) / 2, by omega, by rw [b_255]; exact decide_eq_true (by omega), ?_⟩
    by_cases z : mc_L lt (b + i) % 2 = 1
    · rw [decide_eq_true z] at hx'
      exact Or.inr ⟨(h.2 _).mpr ⟨i, hi, by omega⟩, Bool.eq_false_iff.mpr hx'⟩
    · rw [decide_eq_false z] at hx'
      refine Or.inl ⟨(h.1 _).mpr ⟨i, hi, by omega⟩, ?_⟩
      show a.testBit (mc_L lt (b + i) / 2) = true
      cases e : a.testBit (mc_L lt (b + i) / 2)
      · exact absurd e hx'
      · rfl
theorem mc_tr {a v : Nat} (ha : a < 256) (hv : v < 32) : (nI a >>> (nI v &&& 31)) &&& 1 = if a.testBit v = true then 1 else 0 := by
  rw [mc_b1 _ hv, mc_bn (by omega)]
section
variable {n : Nat} {ap an : Nat → Int32} {lt sz wg : Nat → Int32} {cl : Int32}
theorem mc_y_it {post : Int32 → Prop} {a c s : Nat} (hl : mc_rngd 16 lt) (hs : sz c = nI s) (hs3 : s < 4) (hc : c < 15) (ha : a < 256) (K1 : (∃ i, i < s ∧ mc_lt a (mc_L lt (3 * c + i))) → post 1) (K0 : (∀ i, i < s → ¬ mc_lt a (mc_L lt (3 * c + i))) → post 0) :
    ∀ d i, i + d = s → (∀ j, j < i → ¬ mc_lt a (mc_L lt (3 * c + j))) → wY_isTrue_4 post (nI c) (nI a) cl lt sz wg (d + 1) (nI (3 * c + i)) := by
  intro d
  have e3 : ((3 : Int32) * nI c) + sz (nI c).toNatClampNeg = nI (3 * c + s) := by
    rw [nI_clamp (by omega), hs, show (3 : Int32) = nI 3 from rfl, pk_mul, nI_add]
  induction d with
  | zero =>
    intro i hi hn
    refine And.intro (vp_in_nI hc (by decide)) (br_t ?_ (K0 (fun j hj => hn j (by omega))))
    rw [e3]; exact nI_le (by omega) (by omega)
  | succ d ih =>
    intro i hi hn
    obtain ⟨l16, el⟩ := mc_L_of hl (by decide) (3 * c + i)
    have e : lt (nI (3 * c + i)).toNatClampNeg = nI (mc_L lt (3 * c + i)) := by rw [nI_clamp (by omega)]; exact el
    have ed : lt (nI (3 * c + i)).toNatClampNeg / 2 = nI (mc_L lt (3 * c + i) / 2) := by
      rw [e]; exact pk_div (d := 2) (by omega) (by decide) (by decide)
    have er : lt (nI (3 * c + i)).toNatClampNeg - lt (nI (3 * c + i)).toNatClampNeg / 2 * 2 = nI (mc_L lt (3 * c + i) % 2) := by
      rw [e]; exact pk_rem (d := 2) (by omega) (by decide) (by decide)
    have et : (nI a >>> (lt (nI (3 * c + i)).toNatClampNeg / 2 &&& 31)) &&& 1 = if a.testBit (mc_L lt (3 * c + i) / 2) = true then 1 else 0 := by
      rw [ed]; exact mc_tr ha (by omega)
    have hin : vp_in (nI (3 * c + i)) 45 := vp_in_nI (by omega) (by decide)
    have hlt : ((nI a >>> (lt (nI (3 * c + i)).toNatClampNeg / 2 &&& 31)) &&& 1 = lt (nI (3 * c + i)).toNatClampNeg - lt (nI (3 * c + i)).toNatClampNeg / 2 * 2) ↔ ¬ mc_lt a (mc_L lt (3 * c + i)) := by
      rw [et, er]
      unfold mc_lt
      have hm : mc_L lt (3 * c + i) % 2 = 0 ∨ mc_L lt (3 * c + i) % 2 = 1 := by omega
      cases ht : a.testBit (mc_L lt (3 * c + i) / 2) <;> rcases hm with hm | hm <;> rw [hm] <;> decide
    refine And.intro (vp_in_nI hc (by decide)) (br_f ?_ (And.intro hin (And.intro mc_20 (And.intro hin (And.intro mc_20 (ek_if hlt (fun h => nm_r (e' := nI (3 * c + (i + 1))) (nI_1 _) (ih (i + 1) (by omega) ?_)) (fun h => K1 ⟨i, by omega, Classical.byContradiction h⟩)))))))
    · rw [e3]; exact nI_ge (by omega) (by omega)
    · intro j hj
      by_cases z : j = i
      · rw [z]; exact h
      · exact hn j (by omega)
theorem mc_y_isTrue {post : Int32 → Prop} {a c : Nat} (H : mc_YR n ap an lt sz) (hc : c < n) (ha : a < 256) (K1 : mc_cl (ap c) (an c) 255 (fun j => a.testBit j) → post 1) (K0 : ¬ mc_cl (ap c) (an c) 255 (fun j => a.testBit j) → post 0) : wpY_isTrue post (cl, lt, sz, wg) (nI c) (nI a) := by
  obtain ⟨hn, hl, hs, hC⟩ := H
  obtain ⟨s4, es⟩ := mc_L_of hs (by decide) c
  refine nm_r (e' := nI (3 * c + 0)) (by rw [show (3 : Int32) = nI 3 from rfl, pk_mul]; rfl) ⟨_, mc_y_it hl es s4 (by omega) ha (fun h => K1 ((mc_lt_cl hl (hC c hc)).mpr h)) (fun h => K0 (fun z => ?_)) (mc_L sz c) 0 (by omega) (fun j hj => absurd hj (by omega))⟩
  obtain ⟨i, hi, hx⟩ := (mc_lt_cl hl (hC c hc)).mp z
  exact h i hi hx
theorem mc_y_ml {post : Int32 → Prop} {a : Nat} (H : mc_YR n ap an lt sz) (ha : a < 256) (K1 : mc_mt n ap an a = true → post 1) (K0 : mc_mt n ap an a = false → post 0) :
    ∀ d c, c + d = n → (∀ j, j < c → mc_cl (ap j) (an j) 255 (fun j => a.testBit j)) → wY_makesTrue_2 post (nI a) (nI n) lt sz wg (d + 1) (nI c) := by
  intro d
  have hn := H.1
  induction d with
  | zero =>
    intro c hc h
    exact br_t (nI_le (by omega) (by omega)) (K1 (mc_dec_t (fun j hj => h j (by omega))))
  | succ d ih =>
    intro c hc h
    refine br_f (nI_ge (by omega) (by omega)) (mc_y_isTrue H (by omega) ha (fun hx => br_f mc_10 (nm_r (nI_1 c) (ih (c + 1) (by omega) ?_))) (fun hx => br_t rfl (K0 (mc_dec_f (fun z => hx (z c (by omega)))))))
    intro j hj
    by_cases z : j = c
    · rw [z]; exact hx
    · exact h j (by omega)
theorem mc_y_mk {post : Int32 → Prop} {a : Nat} (H : mc_YR n ap an lt sz) (ha : a < 256) (K1 : mc_mt n ap an a = true → post 1) (K0 : mc_mt n ap an a = false → post 0) : wpY_makesTrue post (nI n, lt, sz, wg) (nI a) :=
  ⟨_, mc_y_ml H ha K1 K0 n 0 (by omega) (fun j hj => absurd hj (by omega))⟩
/-! rank, count -/
theorem mc_nf {x : Bool} (h : x = false) : ¬ x = true := by rw [h]; decide
theorem mc_y_rk {post : Int32 → Prop} {a : Nat} (H : mc_YR n ap an lt sz) (ha : a ≤ 256) (K : post (nI (mc_cn (mc_mt n ap an) a))) :
    ∀ d b, b + d = a → wY_rank_17 post (nI a) (nI n) lt sz wg (d + 1) (nI (mc_cn (mc_mt n ap an) b)) (nI b) := by
  intro d
  induction d with
  | zero =>
    intro b hb
    obtain rfl : b = a := by omega
    exact br_t (nI_le (by omega) (by omega)) K
  | succ d ih =>
    intro b hb
    have i1 := ih (b + 1) (by omega)
    refine br_f (nI_ge (by omega) (by omega)) (mc_y_mk H (by omega) (fun hx => br_f mc_10 (nm_r (nI_1 _) (nm_r (nI_1 b) ?_))) (fun hx => br_t rfl (nm_r (nI_1 b) ?_)))
    · rw [mc_cn_t hx] at i1; exact i1
    · rw [mc_cn_f (mc_nf hx)] at i1; exact i1
theorem mc_y_rank {post : Int32 → Prop} {a : Nat} (H : mc_YR n ap an lt sz) (ha : a ≤ 256) (K : post (nI (mc_cn (mc_mt n ap an) a))) : wpY_rank post (nI n, lt, sz, wg) (nI a) :=
  br_f (nI_pos (by omega)) (br_t (nI_le (b := 256) ha (by decide)) ⟨_, mc_y_rk H ha K a 0 (by omega)⟩)
theorem mc_y_count {post : Int32 → Prop} (H : mc_YR n ap an lt sz) (K : post (nI (mc_cn (mc_mt n ap an) 256))) : wpY_count post (nI n, lt, sz, wg) :=
  mc_y_rank (a := 256) H (Nat.le_refl _) K
/-! countWith -/
noncomputable def mc_ag (n : Nat) (ap an : Nat → Int32) (s t : Int32) : Nat → Bool := fun a => decide (nI a &&& s = t &&& s) && mc_mt n ap an a
theorem mc_y_cw {post : Int32 → Prop} {s t : Int32} (H : mc_YR n ap an lt sz) (K : post (nI (mc_cn (mc_ag n ap an s t) 256))) :
    ∀ d b, b + d = 256 → wY_countWith_29 post s t (nI n) lt sz wg (d + 1) (nI (mc_cn (mc_ag n ap an s t) b)) (nI b) := by
  intro d
  induction d with
  | zero =>
    intro b hb
    obtain rfl : b = 256 := by omega
    exact br_t (nI_le (a := 256) (by omega) (by omega)) K
  | succ d ih =>
    intro b hb
    have i1 := ih (b + 1) (by omega)
    refine br_f (nI_ge (b := 256) (by omega) (by omega)) (br_c (fun hg => mc_y_mk H (by omega) (fun hx => br_f mc_10 (nm_r (nI_1 _) (nm_r (nI_1 b) ?_))) (fun hx => br_t rfl (nm_r (nI_1 b) ?_))) (fun hg => nm_r (nI_1 b) ?_))
    · have e : mc_ag n ap an s t b = true := by
        show (decide (nI b &&& s = t &&& s) && mc_mt n ap an b) = true
        rw [decide_eq_true hg, hx]; rfl
      rw [mc_cn_t e] at i1; exact i1
    · have e : ¬ mc_ag n ap an s t b = true := by
        show ¬ (decide (nI b &&& s = t &&& s) && mc_mt n ap an b) = true
        rw [hx, Bool.and_false]; decide
      rw [mc_cn_f e] at i1; exact i1
    · have e : ¬ mc_ag n ap an s t b = true := by
        show ¬ (decide (nI b &&& s = t &&& s) && mc_mt n ap an b) = true
        rw [decide_eq_false hg, Bool.false_and]; decide
      rw [mc_cn_f e] at i1; exact i1
/-! countSize -/
theorem mc_y_so {post : Int32 → Prop} {a : Nat} (ha : a < 256) (K : post (nI (mc_pop (nI a)))) :
    ∀ d v, v + d = 8 → wY_sizeOf_4 post (nI a) cl lt sz wg (d + 1) (nI (mc_cn (bt (nI a)) v)) (nI v) := by
  intro d
  induction d with
  | zero =>
    intro v hv
    obtain rfl : v = 8 := by omega
    exact br_t (nI_le (a := 8) (by omega) (by omega)) K
  | succ d ih =>
    intro v hv
    have i1 := ih (v + 1) (by omega)
    refine br_f (nI_ge (b := 8) (by omega) (by omega)) ?_
    show ∀ x, x = nI (mc_cn (bt (nI a)) v) + ((nI a >>> (nI v &&& 31)) &&& 1) → _
    refine nm_r (e' := nI (mc_cn (bt (nI a)) (v + 1))) ?_ (nm_r (nI_1 v) i1)
    by_cases h : bt (nI a) v = true
    · rw [mc_b1_t (by omega) h, mc_cn_t h, nI_1]
    · rw [mc_b1_f (by omega) h, mc_cn_f h, Int32.add_zero]
theorem mc_y_sizeOf {post : Int32 → Prop} {a : Nat} (ha : a < 256) (K : post (nI (mc_pop (nI a)))) : wpY_sizeOf post (cl, lt, sz, wg) (nI a) := ⟨_, mc_y_so ha K 8 0 (by omega)⟩
noncomputable def mc_sz (n : Nat) (ap an : Nat → Int32) (k : Int32) : Nat → Bool := fun a => decide (nI (mc_pop (nI a)) = k) && mc_mt n ap an a
theorem mc_y_cs {post : Int32 → Prop} {k : Int32} (H : mc_YR n ap an lt sz) (K : post (nI (mc_cn (mc_sz n ap an k) 256))) :
    ∀ d b, b + d = 256 → wY_countSize_4 post k (nI n) lt sz wg (d + 1) (nI (mc_cn (mc_sz n ap an k) b)) (nI b) := by
  intro d
  induction d with
  | zero =>
    intro b hb
    obtain rfl : b = 256 := by omega
    exact br_t (nI_le (a := 256) (by omega) (by omega)) K
  | succ d ih =>
    intro b hb
    have i1 := ih (b + 1) (by omega)
    refine br_f (nI_ge (b := 256) (by omega) (by omega)) (mc_y_sizeOf (by omega) (br_c (fun hg => mc_y_mk H (by omega) (fun hx => br_f mc_10 (nm_r (nI_1 _) (nm_r (nI_1 b) ?_))) (fun hx => br_t rfl (nm_r (nI_1 b) ?_))) (fun hg => nm_r (nI_1 b) ?_)))
    · have e : mc_sz n ap an k b = true := by
        show (decide (nI (mc_pop (nI b)) = k) && mc_mt n ap an b) = true
        rw [decide_eq_true hg, hx]; rfl
      rw [mc_cn_t e] at i1; exact i1
    · have e : ¬ mc_sz n ap an k b = true := by
        show ¬ (decide (nI (mc_pop (nI b)) = k) && mc_mt n ap an b) = true
        rw [hx, Bool.and_false]; decide
      rw [mc_cn_f e] at i1; exact i1
    · have e : ¬ mc_sz n ap an k b = true := by
        show ¬ (decide (nI (mc_pop (nI b)) = k) && mc_mt n ap an b) = true
        rw [decide_eq_false hg, Bool.false_and]; decide
      rw [mc_cn_f e] at i1; exact i1
theorem mc_y_countSize {post : Int32 → Prop} {k : Int32} (H : mc_YR n ap an lt sz) (K : post (nI (mc_cn (mc_sz n ap an k) 256))) : wpY_countSize post (nI n, lt, sz, wg) k := ⟨_, mc_y_cs H K 256 0 (by omega)⟩
/-! weights -/
def mc_pw (T F : Nat → Int32) (a : Nat) : Nat → Int32
  | 0 => 1
  | k + 1 => mc_pw T F a k * (if a.testBit k = true then T k else F k)
theorem mc_y_wo {post : Int32 → Prop} {wf wt : Nat → Int32} {a : Nat} (hF : ∀ v, v < 8 → wg (2 * v) = wf v) (hT : ∀ v, v < 8 → wg (2 * v + 1) = wt v) (ha : a < 256) (K : post (mc_pw wt wf a 8)) :
    ∀ d v, v + d = 8 → wY_weightOf_4 post (nI a) cl lt sz wg (d + 1) (mc_pw wt wf a v) (nI v) := by
  intro d
  induction d with
  | zero =>
    intro v hv
    obtain rfl : v = 8 := by omega
    exact br_t (nI_le (a := 8) (by omega) (by omega)) K
  | succ d ih =>
    intro v hv
    have i1 := ih (v + 1) (by omega)
    refine br_f (nI_ge (b := 8) (by omega) (by omega)) ?_
    by_cases h : a.testBit v = true
    · have e : (2 * nI v) + ((nI a >>> (nI v &&& 31)) &&& 1) = nI (2 * v + 1) := by
        rw [mc_tr ha (by omega), if_pos h, show (2 : Int32) = nI 2 from rfl, pk_mul, nI_1]
      show vp_in ((2 * nI v) + ((nI a >>> (nI v &&& 31)) &&& 1)) 16 ∧ ∀ x, x = mc_pw wt wf a v * wg ((2 * nI v) + ((nI a >>> (nI v &&& 31)) &&& 1)).toNatClampNeg → _
      rw [e, nI_clamp (by omega), hT v (by omega)]
      refine ⟨vp_in_nI (by omega) (by decide), nm_r (e' := mc_pw wt wf a (v + 1)) ?_ (nm_r (nI_1 v) i1)⟩
      show _ = mc_pw wt wf a v * (if a.testBit v = true then wt v else wf v)
      rw [if_pos h]
    · have e : (2 * nI v) + ((nI a >>> (nI v &&& 31)) &&& 1) = nI (2 * v) := by
        rw [mc_tr ha (by omega), if_neg h, show (2 : Int32) = nI 2 from rfl, pk_mul, Int32.add_zero]
      show vp_in ((2 * nI v) + ((nI a >>> (nI v &&& 31)) &&& 1)) 16 ∧ ∀ x, x = mc_pw wt wf a v * wg ((2 * nI v) + ((nI a >>> (nI v &&& 31)) &&& 1)).toNatClampNeg → _
      rw [e, nI_clamp (by omega), hF v (by omega)]
      refine ⟨vp_in_nI (by omega) (by decide), nm_r (e' := mc_pw wt wf a (v + 1)) ?_ (nm_r (nI_1 v) i1)⟩
      show _ = mc_pw wt wf a v * (if a.testBit v = true then wt v else wf v)
      rw [if_neg h]
theorem mc_y_weightOf {post : Int32 → Prop} {wf wt : Nat → Int32} {a : Nat} (hF : ∀ v, v < 8 → wg (2 * v) = wf v) (hT : ∀ v, v < 8 → wg (2 * v + 1) = wt v) (ha : a < 256) (K : post (mc_pw wt wf a 8)) : wpY_weightOf post (cl, lt, sz, wg) (nI a) :=
  ⟨_, mc_y_wo hF hT ha K 8 0 (by omega)⟩
noncomputable def mc_sh (n : Nat) (ap an wf wt : Nat → Int32) (v : Nat) (b : Bool) : Nat → Int32 := fun a => if a.testBit v = b then (if mc_mt n ap an a = true then mc_pw wt wf a 8 else 0) else 0
theorem mc_y_shl {post : Int32 → Prop} {wf wt : Nat → Int32} {v : Nat} {b : Bool} (H : mc_YR n ap an lt sz) (hF : ∀ v, v < 8 → wg (2 * v) = wf v) (hT : ∀ v, v < 8 → wg (2 * v + 1) = wt v) (hv : v < 8) (K : post (bx_sum (mc_sh n ap an wf wt v b) 256)) :
    ∀ d a, a + d = 256 → wY_share_26 post (nI v) (if b = true then 1 else 0) (nI n) lt sz wg (d + 1) (bx_sum (mc_sh n ap an wf wt v b) a) (nI a) := by
  intro d
  induction d with
  | zero =>
    intro a ha
    obtain rfl : a = 256 := by omega
    exact br_t (nI_le (a := 256) (by omega) (by omega)) K
  | succ d ih =>
    intro a ha
    have i1 := ih (a + 1) (by omega)
    have e1 : bx_sum (mc_sh n ap an wf wt v b) (a + 1) = bx_sum (mc_sh n ap an wf wt v b) a + mc_sh n ap an wf wt v b a := rfl
    have hc : ((nI a >>> (nI v &&& 31)) &&& 1 = if b = true then 1 else 0) ↔ a.testBit v = b := by
      rw [mc_tr (by omega) (by omega)]
      cases a.testBit v <;> cases b <;> decide
    refine br_f (nI_ge (b := 256) (by omega) (by omega)) (ek_if hc (fun hg => mc_y_mk H (by omega) (fun hx => br_f mc_10 (mc_y_weightOf hF hT (by omega) ?_)) (fun hx => br_t rfl (nm_r (nI_1 a) ?_))) (fun hg => nm_r (nI_1 a) ?_))
    · have e : mc_sh n ap an wf wt v b a = mc_pw wt wf a 8 := by unfold mc_sh; rw [if_pos hg, if_pos hx]
      rw [e1, e] at i1
      exact nm_e (nm_r (nI_1 a) i1)
    · have e : mc_sh n ap an wf wt v b a = 0 := by unfold mc_sh; rw [if_pos hg, if_neg (mc_nf hx)]
      rw [e1, e, Int32.add_zero] at i1
      exact i1
    · have e : mc_sh n ap an wf wt v b a = 0 := by unfold mc_sh; rw [if_neg hg]
      rw [e1, e, Int32.add_zero] at i1
      exact i1
theorem mc_y_share {post : Int32 → Prop} {wf wt : Nat → Int32} {v : Nat} {b : Bool} (H : mc_YR n ap an lt sz) (hF : ∀ v, v < 8 → wg (2 * v) = wf v) (hT : ∀ v, v < 8 → wg (2 * v + 1) = wt v) (hv : v < 8) (K : post (bx_sum (mc_sh n ap an wf wt v b) 256)) :
    wpY_share post (nI n, lt, sz, wg) (nI v) (if b = true then 1 else 0) :=
  br_f (nI_pos (by omega)) (br_f (nI_nlt (a := 7) (b := v) (by omega) (by decide)) (br_f (by cases b <;> decide) (br_t (by cases b <;> decide) ⟨_, mc_y_shl H hF hT hv K 256 0 (by omega)⟩)))
end
end
section
/-! the component: its helpers on sets -/
theorem mc_or_t {x y : Bool} : (x || y) = true ↔ x = true ∨ y = true := by cases x <;> cases y <;> decide
theorem mc_and_t {x y : Bool} : (x && y) = true ↔ x = true ∧ y = true := by cases x <;> cases y <;> decide
section
variable {dr ct bu nd : Int32} {ad ap an wf wt nv nc ns kd de fi se tb va bz jF jT : Nat → Int32} {n : Nat}
theorem mc_x_so {post : Int32 → Prop} {x : Int32} (K : post (nI (mc_pop x))) :
    ∀ d v, v + d = 8 → wX_sizeOf_4 post x dr ct bu nd ad ap an wf wt nv nc ns kd de fi se tb va bz jF jT (d + 1) (nI (mc_cn (bt x) v)) (nI v) := by
  intro d
  induction d with
  | zero =>
    intro v hv
    obtain rfl : v = 8 := by omega
    exact br_t (nI_le (a := 8) (by omega) (by omega)) K
  | succ d ih =>
    intro v hv
    have i1 := ih (v + 1) (by omega)
    refine br_f (nI_ge (b := 8) (by omega) (by omega)) (nm_r (e' := nI (mc_cn (bt x) (v + 1))) ?_ (nm_r (nI_1 v) i1))
    by_cases h : bt x v = true
    · rw [mc_b1_t (by omega) h, mc_cn_t h, nI_1]
    · rw [mc_b1_f (by omega) h, mc_cn_f h, Int32.add_zero]
theorem mc_x_sizeOf {post : Int32 → Prop} {x : Int32} (K : post (nI (mc_pop x))) : wpX_sizeOf post (dr, ct, bu, nd, ad, ap, an, wf, wt, nv, nc, ns, kd, de, fi, se, tb, va, bz, jF, jT) x := ⟨_, mc_x_so K 8 0 (by omega)⟩
theorem mc_x_lo {post : Int32 → Prop} {c : Nat} (hc : c < 14) (K : post (mc_li ap an c)) : wpX_literalsOf post (dr, ct, bu, nd, ad, ap, an, wf, wt, nv, nc, ns, kd, de, fi, se, tb, va, bz, jF, jT) (nI c) := by
  refine And.intro (vp_in_nI hc (by decide)) (And.intro (vp_in_nI hc (by decide)) ?_)
  rw [nI_clamp (by omega)]
  exact K
/-! hasEmpty -/
theorem mc_x_he {post : Int32 → Prop} {V C : Int32} (hn : n ≤ 14) (K0 : (∀ c, c < n → bt C c = true → ¬ mc_li ap an c &&& V = 0) → post 0) (K1 : ∀ c, c < n → bt C c = true → mc_li ap an c &&& V = 0 → post 1) :
    ∀ d c, c + d = n → (∀ j, j < c → bt C j = true → ¬ mc_li ap an j &&& V = 0) → wX_hasEmpty_2 post V C dr (nI n) bu nd ad ap an wf wt nv nc ns kd de fi se tb va bz jF jT (d + 1) (nI c) := by
  intro d
  induction d with
  | zero =>
    intro c hc h
    exact br_t (nI_le (by omega) (by omega)) (K0 (fun j hj => h j (by omega)))
  | succ d ih =>
    intro c hc h
    refine br_f (nI_ge (by omega) (by omega)) (ek_if (mc_b1_iff (by omega)) (fun hb => mc_x_lo (by omega) (br_c (fun h0 => K1 c (by omega) hb h0) (fun h0 => nm_r (nI_1 c) (ih (c + 1) (by omega) ?_)))) (fun hb => nm_r (nI_1 c) (ih (c + 1) (by omega) ?_)))
    · intro j hj hbj
      by_cases z : j = c
      · rw [z]; exact h0
      · exact h j (by omega) hbj
    · intro j hj hbj
      by_cases z : j = c
      · rw [z] at hbj; exact absurd hbj hb
      · exact h j (by omega) hbj
theorem mc_x_hasEmpty {post : Int32 → Prop} {V C : Int32} (hn : n ≤ 14) (K0 : (∀ c, c < n → bt C c = true → ¬ mc_li ap an c &&& V = 0) → post 0) (K1 : ∀ c, c < n → bt C c = true → mc_li ap an c &&& V = 0 → post 1) : wpX_hasEmpty post (dr, nI n, bu, nd, ad, ap, an, wf, wt, nv, nc, ns, kd, de, fi, se, tb, va, bz, jF, jT) V C :=
  ⟨_, mc_x_he hn K0 K1 n 0 (by omega) (fun j hj => absurd hj (by omega))⟩
/-! clausesWith -/
theorem mc_x_wi {post : Int32 → Prop} {P C : Int32} (hn : n ≤ 14) (K : ∀ r, (∀ j, bt r j = true ↔ j < n ∧ bt C j = true ∧ ¬ mc_li ap an j &&& P = 0) → post r) :
    ∀ d c r, c + d = n → (∀ j, bt r j = true ↔ j < c ∧ bt C j = true ∧ ¬ mc_li ap an j &&& P = 0) → wX_clausesWith_5 post P C dr (nI n) bu nd ad ap an wf wt nv nc ns kd de fi se tb va bz jF jT (d + 1) r (nI c) := by
  intro d
  induction d with
  | zero =>
    intro c r hc h
    obtain rfl : c = n := by omega
    exact br_t (nI_le (by omega) (by omega)) (K r h)
  | succ d ih =>
    intro c r hc h
    have skip : (¬ (bt C c = true ∧ ¬ mc_li ap an c &&& P = 0)) → ∀ j, bt r j = true ↔ j < c + 1 ∧ bt C j = true ∧ ¬ mc_li ap an j &&& P = 0 := by
      intro hx j
      rw [h]
      constructor
      · exact fun z => ⟨by omega, z.2⟩
      · intro z
        refine ⟨?_, z.2⟩
        rcases Nat.lt_or_ge j c with l | l
        · exact l
        · obtain rfl : j = c := by omega
          exact absurd z.2 hx
    refine br_f (nI_ge (by omega) (by omega)) (ek_if (mc_b1_iff (by omega)) (fun hb => mc_x_lo (by omega) (br_c (fun h0 => nm_r (nI_1 c) (ih (c + 1) r (by omega) (skip (fun z => z.2 h0)))) (fun h0 => nm_e (nm_r (nI_1 c) (ih (c + 1) _ (by omega) ?_))))) (fun hb => nm_r (nI_1 c) (ih (c + 1) r (by omega) (skip (fun z => hb z.1)))))
    intro j
    rw [b_or, mc_shl1 (by omega), mc_or_t, h, decide_eq_true_iff]
    constructor
    · rintro (z | z)
      · exact ⟨by omega, z.2⟩
      · rw [z]; exact ⟨by omega, hb, h0⟩
    · intro z
      rcases Nat.lt_or_ge j c with l | l
      · exact Or.inl ⟨l, z.2⟩
      · exact Or.inr (by omega)
theorem mc_x_clausesWith {post : Int32 → Prop} {P C : Int32} (hn : n ≤ 14) (K : ∀ r, (∀ j, bt r j = true ↔ j < n ∧ bt C j = true ∧ ¬ mc_li ap an j &&& P = 0) → post r) : wpX_clausesWith post (dr, nI n, bu, nd, ad, ap, an, wf, wt, nv, nc, ns, kd, de, fi, se, tb, va, bz, jF, jT) P C :=
  ⟨_, mc_x_wi hn K n 0 0 (by omega) (fun j => by rw [b_0]; exact ⟨fun z => absurd z (by decide), fun z => absurd z.1 (by omega)⟩)⟩
/-! clausesLeft -/
theorem mc_x_le {post : Int32 → Prop} {t C : Int32} {v : Nat} {ma : Nat → Int32} (hn : n ≤ 14) (hv : v < 8) (hm : (t = 0 ∧ ma = an) ∨ (¬ t = 0 ∧ ma = ap)) (K : ∀ r, (∀ j, bt r j = (bt C j && !(decide (j < n) && bt (ma j) v))) → post r) :
    ∀ d c r, c + d = n → (∀ j, bt r j = (bt C j && !(decide (j < c) && bt (ma j) v))) → wX_clausesLeft_6 post (nI v) t dr (nI n) bu nd ad ap an wf wt nv nc ns kd de fi se tb va bz jF jT (d + 1) r (nI c) := by
  intro d
  induction d with
  | zero =>
    intro c r hc h
    obtain rfl : c = n := by omega
    exact br_t (nI_le (by omega) (by omega)) (K r h)
  | succ d ih =>
    intro c r hc h
    have step : wX_clausesLeft_36 post (wX_clausesLeft_6 post (nI v) t dr (nI n) bu nd ad ap an wf wt nv nc ns kd de fi se tb va bz jF jT (d + 1)) (nI v) t r (nI c) (ma c) dr (nI n) bu nd ad ap an wf wt nv nc ns kd de fi se tb va bz jF jT := by
      refine ek_if (mc_b1_iff (by omega)) (fun hb => nm_e (nm_r (nI_1 c) (ih (c + 1) _ (by omega) ?_))) (fun hb => nm_r (nI_1 c) (ih (c + 1) r (by omega) ?_))
      · intro j
        rw [mc_not, h, mc_shl1 (by omega)]
        by_cases z : j = c
        · subst z
          rw [decide_eq_true rfl, decide_eq_true (show j < j + 1 by omega), hb, Bool.not_true, Bool.and_false, Bool.true_and, Bool.not_true, Bool.and_false]
        · rw [decide_eq_false z, Bool.not_false, Bool.and_true, decide_eq_decide.mpr (show j < c ↔ j < c + 1 by omega)]
      · intro j
        rw [h]
        by_cases z : j = c
        · subst z
          rw [Bool.eq_false_iff.mpr hb, Bool.and_false, Bool.and_false]
        · rw [decide_eq_decide.mpr (show j < c ↔ j < c + 1 by omega)]
    refine br_f (nI_ge (by omega) (by omega)) ?_
    rcases hm with ⟨h0, rfl⟩ | ⟨h0, rfl⟩
    · refine br_t h0 (And.intro (vp_in_nI (by omega) (by decide)) ?_)
      rw [nI_clamp (by omega)]
      exact step
    · refine br_f h0 (And.intro (vp_in_nI (by omega) (by decide)) ?_)
      rw [nI_clamp (by omega)]
      exact step
theorem mc_x_leftT {post : Int32 → Prop} {C : Int32} {v : Nat} (hn : n ≤ 14) (hv : v < 8) (K : ∀ r, (∀ j, bt r j = (bt C j && !(decide (j < n) && bt (ap j) v))) → post r) : wpX_clausesLeft post (dr, nI n, bu, nd, ad, ap, an, wf, wt, nv, nc, ns, kd, de, fi, se, tb, va, bz, jF, jT) C (nI v) 1 :=
  ⟨_, mc_x_le hn hv (Or.inr ⟨mc_10, rfl⟩) K n 0 C (by omega) (fun j => by rw [decide_eq_false (show ¬ j < 0 by omega), Bool.false_and, Bool.not_false, Bool.and_true])⟩
theorem mc_x_leftF {post : Int32 → Prop} {C : Int32} {v : Nat} (hn : n ≤ 14) (hv : v < 8) (K : ∀ r, (∀ j, bt r j = (bt C j && !(decide (j < n) && bt (an j) v))) → post r) : wpX_clausesLeft post (dr, nI n, bu, nd, ad, ap, an, wf, wt, nv, nc, ns, kd, de, fi, se, tb, va, bz, jF, jT) C (nI v) 0 :=
  ⟨_, mc_x_le hn hv (Or.inl ⟨rfl, rfl⟩) K n 0 C (by omega) (fun j => by rw [decide_eq_false (show ¬ j < 0 by omega), Bool.false_and, Bool.not_false, Bool.and_true])⟩
/-! busiest -/
theorem mc_sum01 (x y : Int32) {c v : Nat} (hc : c < 32) (hv : v < 32) : ((x >>> (nI c &&& 31)) &&& (y >>> (nI v &&& 31))) &&& 1 = if bt x c = true ∧ bt y v = true then 1 else 0 := by
  apply b_ext
  intro j hj
  rw [b_and, b_and, b_sshr c hc x hj, b_sshr v hv y hj, mc_bit1]
  by_cases h0 : j = 0
  · subst h0
    rw [Nat.add_zero, Nat.add_zero, if_pos hc, if_pos hv, decide_eq_true rfl, Bool.and_true]
    cases h : bt x c <;> cases h2 : bt y v <;> decide
  · rw [decide_eq_false h0, Bool.and_false]
    by_cases h : bt x c = true ∧ bt y v = true
    · rw [if_pos h, mc_bit1, decide_eq_false h0]
    · rw [if_neg h, b_0]
theorem mc_x_b21 {post : Int32 → Prop} {J : Int32 → Int32 → Int32 → Prop} {V C x3 x4 : Int32} {v : Nat} (hn : n ≤ 14) (hv : v < 8)
    (K0 : (bt V v = true → ∃ t, t < 15 ∧ nI t ≤ x4) → J x3 x4 (nI (v + 1))) (K1 : bt V v = true → ∀ t, J (nI v) (nI t) (nI (v + 1))) :
    ∀ d c t, c + d = n → t ≤ c → wX_busiest_21 post J V C x3 x4 (nI v) dr (nI n) bu nd ad ap an wf wt nv nc ns kd de fi se tb va bz jF jT (d + 1) (nI t) (nI c) := by
  intro d
  induction d with
  | zero =>
    intro c t hc ht
    exact br_t (nI_le (by omega) (by omega)) (ek_if (mc_b1_iff (by omega)) (fun hb => br_c (fun h => nm_r (nI_1 v) (K0 (fun _ => ⟨t, by omega, h⟩))) (fun h => nm_r (nI_1 v) (K1 hb t))) (fun hb => nm_r (nI_1 v) (K0 (fun z => absurd z hb))))
  | succ d ih =>
    intro c t hc ht
    refine br_f (nI_ge (by omega) (by omega)) (mc_x_lo (by omega) ?_)
    show ∀ x, x = nI t + (((C >>> (nI c &&& 31)) &&& (mc_li ap an c >>> (nI v &&& 31))) &&& 1) → _
    rw [mc_sum01 _ _ (show c < 32 by omega) (show v < 32 by omega)]
    by_cases h : bt C c = true ∧ bt (mc_li ap an c) v = true
    · rw [if_pos h]; exact nm_r (nI_1 t) (nm_r (nI_1 c) (ih (c + 1) (t + 1) (by omega) (by omega)))
    · rw [if_neg h]; exact nm_r (Int32.add_zero _) (nm_r (nI_1 c) (ih (c + 1) t (by omega) (by omega)))
theorem mc_x_b8 {post : Int32 → Prop} {V C : Int32} (hn : n ≤ 14) (hV : ∃ v, v < 8 ∧ bt V v = true) (K : ∀ b, b < 8 → bt V b = true → post (nI b)) :
    ∀ d v x3 x4, v + d = 8 → ((x4 = -1 ∧ ∀ j, j < v → bt V j = false) ∨ ∃ b, b < 8 ∧ x3 = nI b ∧ bt V b = true) → wX_busiest_8 post V C dr (nI n) bu nd ad ap an wf wt nv nc ns kd de fi se tb va bz jF jT (d + 1) x3 x4 (nI v) := by
  intro d
  induction d with
  | zero =>
    intro v x3 x4 hv h
    refine br_t (nI_le (a := 8) (by omega) (by omega)) ?_
    rcases h with ⟨_, h⟩ | ⟨b, hb, rfl, h⟩
    · obtain ⟨w, hw, hb⟩ := hV
      rw [h w (by omega)] at hb; exact absurd hb (by decide)
    · exact K b hb h
  | succ d ih =>
    intro v x3 x4 hv h
    refine br_f (nI_ge (b := 8) (by omega) (by omega)) ⟨n + 1, mc_x_b21 hn (by omega) (fun h1 => ih (v + 1) x3 x4 (by omega) ?_) (fun h1 t => ih (v + 1) (nI v) (nI t) (by omega) (Or.inr ⟨v, by omega, rfl, h1⟩)) n 0 0 (by omega) (by omega)⟩
    rcases h with ⟨h2, h⟩ | h
    · refine Or.inl ⟨h2, fun j hj => ?_⟩
      by_cases z : j = v
      · rw [z]
        refine Bool.eq_false_iff.mpr (fun hb => ?_)
        obtain ⟨t, ht, hle⟩ := h1 hb
        rw [h2, Int32.le_iff_toInt_le, nI_toInt (by omega), show (-1 : Int32).toInt = -1 by decide] at hle
        omega
      · exact h j (by omega)
    · exact Or.inr h
theorem mc_x_busiest {post : Int32 → Prop} {V C : Int32} (hn : n ≤ 14) (hV : ∃ v, v < 8 ∧ bt V v = true) (K : ∀ b, b < 8 → bt V b = true → post (nI b)) : wpX_busiest post (dr, nI n, bu, nd, ad, ap, an, wf, wt, nv, nc, ns, kd, de, fi, se, tb, va, bz, jF, jT) V C :=
  ⟨_, mc_x_b8 hn hV K 8 0 0 (-1) (by omega) (Or.inl ⟨rfl, fun j hj => absurd hj (by omega)⟩)⟩
/-! together -/
def mc_ti (n : Nat) (ap an : Nat → Int32) (V C s0 : Int32) (c : Nat) (x : Int32) : Prop :=
  (∀ v, bt s0 v = true → bt x v = true) ∧ (∀ v, bt x v = true → bt V v = true) ∧ (∀ j, j < c → bt C j = true → ¬ mc_li ap an j &&& s0 = 0 → ∀ v, bt (mc_li ap an j) v = true → bt V v = true → bt x v = true) ∧ (mc_clo n ap an V C s0 → x = s0)
theorem mc_ti_skip {V C s0 x : Int32} {c : Nat} (h : mc_ti n ap an V C s0 c x) (hx : bt C c = true → mc_li ap an c &&& x = 0) : mc_ti n ap an V C s0 (c + 1) x := by
  obtain ⟨h1, h2, h3, h4⟩ := h
  refine ⟨h1, h2, fun j hj hb h0 => ?_, h4⟩
  by_cases z : j = c
  · subst z
    exact absurd (mc_and0.mpr (fun i a b => mc_and0.mp (hx hb) i a (h1 i b))) h0
  · exact h3 j (by omega) hb h0
theorem mc_ti_add {V C s0 x : Int32} {c : Nat} (hc : c < n) (h : mc_ti n ap an V C s0 c x) (hb : bt C c = true) (hx : ¬ mc_li ap an c &&& x = 0) : mc_ti n ap an V C s0 (c + 1) (x ||| (mc_li ap an c &&& V)) := by
  obtain ⟨h1, h2, h3, h4⟩ := h
  refine ⟨fun v hv => ?_, fun v hv => ?_, fun j hj hbj h0 v hl hV => ?_, fun H => ?_⟩
  · rw [b_or, h1 v hv]; rfl
  · rw [b_or, mc_or_t, b_and, mc_and_t] at hv
    rcases hv with z | z
    · exact h2 v z
    · exact z.2
  · rw [b_or, mc_or_t, b_and, mc_and_t]
    by_cases z : j = c
    · subst z; exact Or.inr ⟨hl, hV⟩
    · exact Or.inl (h3 j (by omega) hbj h0 v hl hV)
  · have e := h4 H
    subst e
    apply mc_ext
    intro v
    rw [b_or, b_and]
    cases e1 : bt (mc_li ap an c) v
    · rw [Bool.false_and, Bool.or_false]
    · cases e2 : bt V v
      · rw [Bool.and_false, Bool.or_false]
      · rw [H c hc hb hx v e1 e2]; rfl
theorem mc_x_t56 {post : Int32 → Prop} {J : Int32 → Int32 → Prop} {V C s0 : Int32} {r : Nat} (hn : n ≤ 14) (K : ∀ x, mc_ti n ap an V C s0 n x → J x (nI (r + 1))) :
    ∀ d c x, c + d = n → mc_ti n ap an V C s0 c x → wX_together_56 post J V C (nI r) dr (nI n) bu nd ad ap an wf wt nv nc ns kd de fi se tb va bz jF jT (d + 1) x (nI c) := by
  intro d
  induction d with
  | zero =>
    intro c x hc h
    obtain rfl : c = n := by omega
    exact br_t (nI_le (by omega) (by omega)) (nm_r (nI_1 r) (K x h))
  | succ d ih =>
    intro c x hc h
    exact br_f (nI_ge (by omega) (by omega)) (ek_if (mc_b1_iff (by omega))
      (fun hb => mc_x_lo (by omega) (br_c (fun h0 => nm_r (nI_1 c) (ih (c + 1) x (by omega) (mc_ti_skip h (fun _ => h0))))
        (fun h0 => mc_x_lo (by omega) (nm_e (nm_r (nI_1 c) (ih (c + 1) _ (by omega) (mc_ti_add (by omega) h hb h0)))))))
      (fun hb => nm_r (nI_1 c) (ih (c + 1) x (by omega) (mc_ti_skip h (fun z => absurd z hb)))))
theorem mc_x_t46 {post : Int32 → Prop} {V C : Int32} (hn : n ≤ 14) (hV : ∀ j, 8 ≤ j → bt V j = false) (K : ∀ x, (∀ v, bt x v = true → bt V v = true) → x ≠ 0 → mc_clo n ap an V C x → post x) :
    ∀ d r x, r + d = 8 → (∀ v, bt x v = true → bt V v = true) → (mc_clo n ap an V C x ∨ r + 1 ≤ mc_pop x) → x ≠ 0 → wX_together_46 post V C dr (nI n) bu nd ad ap an wf wt nv nc ns kd de fi se tb va bz jF jT (d + 1) x (nI r) := by
  intro d
  induction d with
  | zero =>
    intro r x hr h1 h2 h3
    refine br_t (nI_le (a := 8) (by omega) (by omega)) (K x h1 h3 ?_)
    rcases h2 with h | h
    · exact h
    · have := mc_pop_le x; omega
  | succ d ih =>
    intro r x hr h1 h2 h3
    refine br_f (nI_ge (b := 8) (by omega) (by omega)) ⟨n + 1, mc_x_t56 (s0 := x) hn (fun y hy => ?_) n 0 x (by omega) ⟨fun v h => h, h1, fun j hj => absurd hj (by omega), fun _ => rfl⟩⟩
    obtain ⟨y1, y2, y3, y4⟩ := hy
    have y8 : ∀ j, 8 ≤ j → bt y j = false := fun j hj => by
      cases e : bt y j
      · rfl
      · have := y2 j e; rw [hV j hj] at this; exact absurd this (by decide)
    refine ih (r + 1) y (by omega) y2 ?_ (fun z => h3 (mc_z.mpr (fun i => ?_)))
    · by_cases e : x = y
      · left
        intro j hj hb h0 v hl hv
        rw [← e] at h0
        exact y3 j hj hb h0 v hl hv
      · right
        have p1 : mc_pop x < mc_pop y := mc_pop_lt y8 y1 e
        rcases h2 with h | h
        · exact absurd (y4 h).symm e
        · omega
    · cases e : bt x i
      · rfl
      · have := y1 i e; rw [z, b_0] at this; exact absurd this (by decide)
theorem mc_x_t5 {post : Int32 → Prop} {V C : Int32} (hn : n ≤ 14) (hV : ∀ j, 8 ≤ j → bt V j = false) (hC : ∃ c, c < n ∧ bt C c = true) (hE : ∀ c, c < n → bt C c = true → ¬ mc_li ap an c &&& V = 0) (K : ∀ x, (∀ v, bt x v = true → bt V v = true) → x ≠ 0 → mc_clo n ap an V C x → post x) :
    ∀ d c, c + d = n → (∀ j, j < c → bt C j = false) → wX_together_5 post V C dr (nI n) bu nd ad ap an wf wt nv nc ns kd de fi se tb va bz jF jT (d + 1) 0 (nI c) := by
  intro d
  induction d with
  | zero =>
    intro c hc h
    obtain ⟨j, hj, hb⟩ := hC
    rw [h j (by omega)] at hb
    exact absurd hb (by decide)
  | succ d ih =>
    intro c hc h
    refine br_f (nI_ge (by omega) (by omega)) (br_t rfl (ek_if (mc_b1_iff (by omega)) (fun hb => mc_x_lo (by omega) (nm_e (nm_r (nI_1 c) ?_))) (fun hb => nm_r (nI_1 c) (ih (c + 1) (by omega) ?_))))
    · have hs : ∀ v, bt (mc_li ap an c &&& V) v = true → bt V v = true := fun v hv => by rw [b_and, mc_and_t] at hv; exact hv.2
      have hne : mc_li ap an c &&& V ≠ 0 := hE c (by omega) hb
      have h8 : ∀ j, 8 ≤ j → bt (mc_li ap an c &&& V) j = false := fun j hj => by rw [b_and, hV j hj, Bool.and_false]
      have go : ∃ n46, wX_together_46 post V C dr (nI n) bu nd ad ap an wf wt nv nc ns kd de fi se tb va bz jF jT n46 (mc_li ap an c &&& V) 0 :=
        ⟨_, mc_x_t46 hn hV K 8 0 _ (by omega) hs (Or.inr (mc_pop_pos h8 hne)) hne⟩
      exact br_c (fun _ => go) (fun _ => br_f hne go)
    · intro j hj
      by_cases z : j = c
      · rw [z]; exact Bool.eq_false_iff.mpr hb
      · exact h j (by omega)
theorem mc_x_together {post : Int32 → Prop} {V C : Int32} (hn : n ≤ 14) (hV : ∀ j, 8 ≤ j → bt V j = false) (hC : ∃ c, c < n ∧ bt C c = true) (hE : ∀ c, c < n → bt C c = true → ¬ mc_li ap an c &&& V = 0) (K : ∀ x, (∀ v, bt x v = true → bt V v = true) → x ≠ 0 → mc_clo n ap an V C x → post x) : wpX_together post (dr, nI n, bu, nd, ad, ap, an, wf, wt, nv, nc, ns, kd, de, fi, se, tb, va, bz, jF, jT) V C :=
  ⟨_, mc_x_t5 hn hV hC hE K n 0 (by omega) (fun j hj => absurd hj (by omega))⟩
end
end
section
/-! the component: the diagram is built -/
def mc_qs (f : Nat → Nat) : Nat → Nat
  | 0 => 0
  | n + 1 => mc_qs f n + f n
theorem mc_qs_congr {f g : Nat → Nat} {n : Nat} (h : ∀ i, i < n → f i = g i) : mc_qs f n = mc_qs g n := by
  induction n with
  | zero => rfl
  | succ n ih =>
    show mc_qs f n + f n = mc_qs g n + g n
    rw [ih (fun i hi => h i (by omega)), h n (by omega)]
/-- what a node may cost: itself and all below it -/
def mc_w (x : Int32) : Nat := 2 ^ (mc_pop x + 1) - 1
theorem mc_w_pos (x : Int32) : 1 ≤ mc_w x := by
  have h : 2 ^ 1 ≤ 2 ^ (mc_pop x + 1) := Nat.pow_le_pow_right (by decide) (by omega)
  show 1 ≤ 2 ^ (mc_pop x + 1) - 1
  omega
theorem mc_w_two {x y z : Int32} (h1 : mc_pop x < mc_pop z) (h2 : mc_pop y < mc_pop z) : mc_w x + mc_w y + 1 ≤ mc_w z := by
  have a1 : 2 ^ (mc_pop x + 1) ≤ 2 ^ mc_pop z := Nat.pow_le_pow_right (by decide) (by omega)
  have a2 : 2 ^ (mc_pop y + 1) ≤ 2 ^ mc_pop z := Nat.pow_le_pow_right (by decide) (by omega)
  have a3 : 2 ^ (mc_pop z + 1) = 2 ^ mc_pop z * 2 := Nat.pow_succ ..
  have a4 : 0 < 2 ^ mc_pop z := Nat.two_pow_pos _
  have b1 := Nat.two_pow_pos (mc_pop x + 1)
  have b2 := Nat.two_pow_pos (mc_pop y + 1)
  show 2 ^ (mc_pop x + 1) - 1 + (2 ^ (mc_pop y + 1) - 1) + 1 ≤ 2 ^ (mc_pop z + 1) - 1
  omega
def mc_pf (m : Nat) (nv : Nat → Int32) (i : Nat) : Nat := if i < m then 1 else mc_w (nv i)
def mc_pt (m : Nat) (nv : Nat → Int32) (N : Nat) : Nat := mc_qs (mc_pf m nv) N
theorem mc_pt_s (m : Nat) (nv : Nat → Int32) (N : Nat) : mc_pt m nv (N + 1) = mc_pt m nv N + mc_pf m nv N := rfl
theorem mc_pt_ge (m : Nat) (nv : Nat → Int32) (N : Nat) : N ≤ mc_pt m nv N := by
  induction N with
  | zero => exact Nat.zero_le _
  | succ N ih =>
    have : 1 ≤ mc_pf m nv N := by
      unfold mc_pf
      split
      · exact Nat.le_refl _
      · exact mc_w_pos _
    rw [mc_pt_s]; omega
theorem mc_pt_congr {m N : Nat} {nv nv' : Nat → Int32} (h : ∀ i, i < N → nv' i = nv i) : mc_pt m nv' N = mc_pt m nv N :=
  mc_qs_congr (fun i hi => by unfold mc_pf; rw [h i hi])
theorem mc_pt_step {m N : Nat} {nv : Nat → Int32} (h : m < N) : mc_pt (m + 1) nv N + mc_w (nv m) = mc_pt m nv N + 1 := by
  have lo : ∀ k, k ≤ m → mc_pt (m + 1) nv k = mc_pt m nv k := fun k hk =>
    mc_qs_congr (fun i hi => by unfold mc_pf; rw [if_pos (show i < m + 1 by omega), if_pos (show i < m by omega)])
  have hi : ∀ d, mc_pt (m + 1) nv (m + 1 + d) + mc_w (nv m) = mc_pt m nv (m + 1 + d) + 1 := by
    intro d
    induction d with
    | zero =>
      rw [Nat.add_zero, mc_pt_s, mc_pt_s, lo m (Nat.le_refl _)]
      unfold mc_pf
      rw [if_pos (show m < m + 1 by omega), if_neg (show ¬ m < m by omega)]
      omega
    | succ d ih =>
      rw [← Nat.add_assoc, mc_pt_s, mc_pt_s]
      have : mc_pf (m + 1) nv (m + 1 + d) = mc_pf m nv (m + 1 + d) := by
        unfold mc_pf; rw [if_neg (show ¬ m + 1 + d < m + 1 by omega), if_neg (show ¬ m + 1 + d < m by omega)]
      omega
  have := hi (N - (m + 1))
  rw [show m + 1 + (N - (m + 1)) = N by omega] at this
  exact this
/-- nodes and table -/
def mc_Bs (n N : Nat) (nv nc ns tb : Nat → Int32) : Prop :=
  (∀ i, i < N → (∀ j, 8 ≤ j → bt (nv i) j = false) ∧ (∀ j, n ≤ j → bt (nc i) j = false) ∧ ns i = nI (mc_pop (nv i))) ∧ (∀ i, i < 1024 → tb i < 0 ∨ ∃ j, j < N ∧ tb i = nI j)
theorem mc_Bs_new {n N i : Nat} {nv nc ns tb : Nat → Int32} {V C : Int32} (h : mc_Bs n N nv nc ns tb) (hV : ∀ j, 8 ≤ j → bt V j = false) (hC : ∀ j, n ≤ j → bt C j = false) :
    mc_Bs n (N + 1) (upd nv N V) (upd nc N C) (upd ns N (nI (mc_pop V))) (upd tb i (nI N)) := by
  obtain ⟨h1, h2⟩ := h
  refine ⟨fun k hk => ?_, fun k hk => ?_⟩
  · by_cases e : k = N
    · subst e; rw [pk_us, pk_us, pk_us]; exact ⟨hV, hC, rfl⟩
    · rw [pk_un e, pk_un e, pk_un e]; exact h1 k (by omega)
  · by_cases e : k = i
    · subst e; rw [pk_us]; exact Or.inr ⟨N, by omega, rfl⟩
    · rw [pk_un e]
      rcases h2 k hk with z | ⟨j, hj, z⟩
      · exact Or.inl z
      · exact Or.inr ⟨j, by omega, z⟩
section
variable {dr ct bu nd : Int32} {ad ap an wf wt nv nc ns kd de fi se tb va bz jF jT : Nat → Int32} {n N m : Nat}
theorem mc_x_nf84 {post : Int32 → SX → Prop} {V C : Int32} {i : Nat} (hi : i < 1024) (hN : N < 512)
    (K : post (nI N) (dr, ct, bu, nI (N + 1), ad, ap, an, wf, wt, upd nv N V, upd nc N C, upd ns N (nI (mc_pop V)), kd, de, fi, se, upd tb i (nI N), va, bz, jF, jT)) : wX_nodeFor_84 post V C (nI i) dr ct bu (nI N) ad ap an wf wt nv nc ns kd de fi se tb va bz jF jT := by
  have cN : (nI N).toNatClampNeg = N := nI_clamp (by omega)
  have ci : (nI i).toNatClampNeg = i := nI_clamp (by omega)
  have iN : vp_in (nI N) 512 := vp_in_nI hN (by decide)
  refine And.intro (vp_in_nI hi (by decide)) (nm_r (e' := upd tb i (nI N)) (by rw [ci]) (And.intro iN (nm_r (e' := upd nv N V) (by rw [cN]) (And.intro iN (nm_r (e' := upd nc N C) (by rw [cN])
    (mc_x_sizeOf (And.intro iN (nm_r (e' := upd ns N (nI (mc_pop V))) (by rw [cN]) (nm_r (nI_1 N) ?_)))))))))
  rw [nI_pred]
  exact K
theorem mc_x_nf20 {post : Int32 → SX → Prop} {V C : Int32} (hN : N < 512) (hT : ∀ i, i < 1024 → tb i < 0 ∨ ∃ j, j < N ∧ tb i = nI j) (K1 : ∀ j, j < N → nv j = V → nc j = C → post (nI j) (dr, ct, bu, nI N, ad, ap, an, wf, wt, nv, nc, ns, kd, de, fi, se, tb, va, bz, jF, jT))
    (K2 : ∀ i, i < 1024 → post (nI N) (dr, ct, bu, nI (N + 1), ad, ap, an, wf, wt, upd nv N V, upd nc N C, upd ns N (nI (mc_pop V)), kd, de, fi, se, upd tb i (nI N), va, bz, jF, jT)) :
    ∀ d t i, t + d = 1024 → i < 1024 → wX_nodeFor_20 post V C dr ct bu (nI N) ad ap an wf wt nv nc ns kd de fi se tb va bz jF jT (d + 1) (nI i) (nI t) := by
  intro d
  induction d with
  | zero =>
    intro t i ht hi
    exact br_t (nI_le (a := 1024) (by omega) (by omega)) (mc_x_nf84 hi hN (K2 i hi))
  | succ d ih =>
    intro t i ht hi
    have ii : vp_in (nI i) 1024 := vp_in_nI hi (by decide)
    have ci : (nI i).toNatClampNeg = i := nI_clamp (by omega)
    refine br_f (nI_ge (b := 1024) (by omega) (by omega)) (And.intro ii ?_)
    rw [ci]
    rcases hT i hi with h | ⟨j, hj, h⟩
    · exact br_t h (mc_x_nf84 hi hN (K2 i hi))
    · have hj' : ¬ tb i < 0 := by rw [h]; exact nI_pos (by omega)
      have cj : (nI j).toNatClampNeg = j := nI_clamp (by omega)
      have ij : vp_in (nI j) 512 := vp_in_nI (by omega) (by decide)
      have next : wX_nodeFor_70 post (wX_nodeFor_20 post V C dr ct bu (nI N) ad ap an wf wt nv nc ns kd de fi se tb va bz jF jT (d + 1)) V C (nI i) (nI t) dr ct bu (nI N) ad ap an wf wt nv nc ns kd de fi se tb va bz jF jT :=
        nm_r (e' := nI ((i + 1) % 1024)) (by rw [nI_1]; exact pk_andN (by omega) 10 (by decide)) (nm_r (nI_1 t) (ih (t + 1) _ (by omega) (Nat.mod_lt _ (by decide))))
      refine br_f hj' (And.intro ii (nm_r h (And.intro ij ?_)))
      rw [cj]
      exact br_c (fun h1 => And.intro ij (br_c (fun h2 => K1 j hj h1 h2) (fun h2 => next))) (fun h1 => next)
theorem mc_x_nf {post : Int32 → SX → Prop} {V C : Int32} (hN : N < 512) (hT : ∀ i, i < 1024 → tb i < 0 ∨ ∃ j, j < N ∧ tb i = nI j) (K1 : ∀ j, j < N → nv j = V → nc j = C → post (nI j) (dr, ct, bu, nI N, ad, ap, an, wf, wt, nv, nc, ns, kd, de, fi, se, tb, va, bz, jF, jT))
    (K2 : ∀ i, i < 1024 → post (nI N) (dr, ct, bu, nI (N + 1), ad, ap, an, wf, wt, upd nv N V, upd nc N C, upd ns N (nI (mc_pop V)), kd, de, fi, se, upd tb i (nI N), va, bz, jF, jT)) : wpX_nodeFor post (dr, ct, bu, nI N, ad, ap, an, wf, wt, nv, nc, ns, kd, de, fi, se, tb, va, bz, jF, jT) V C := by
  obtain ⟨y, hy, ey⟩ := pk_andE ((V * 37) + (C * 101)) (m := 2147483647) 31 (by decide)
  refine And.intro (by decide) (nm_r (e' := nI (y % 1024)) ?_ ⟨_, mc_x_nf20 hN hT K1 K2 1024 0 (y % 1024) (by omega) (Nat.mod_lt _ (by decide))⟩)
  rw [ey]
  exact pk_rem (d := 1024) hy (by decide) (by decide)
theorem mc_x_nodeFor {post : Int32 → SX → Prop} {V C : Int32} (hm : m ≤ N) (hB : mc_Bs n N nv nc ns tb) (hp : mc_pt m nv N + mc_w V ≤ 511) (hV : ∀ j, 8 ≤ j → bt V j = false) (hC : ∀ j, n ≤ j → bt C j = false)
    (K : ∀ (j N' : Nat) (nv' nc' ns' tb' : Nat → Int32), N ≤ N' → j < N' → nv' j = V → nc' j = C → (∀ i, i < N → nv' i = nv i) → (∀ i, i < N → nc' i = nc i) → mc_Bs n N' nv' nc' ns' tb' → mc_pt m nv' N' ≤ mc_pt m nv N + mc_w V →
      post (nI j) (dr, ct, bu, nI N', ad, ap, an, wf, wt, nv', nc', ns', kd, de, fi, se, tb', va, bz, jF, jT)) : wpX_nodeFor post (dr, ct, bu, nI N, ad, ap, an, wf, wt, nv, nc, ns, kd, de, fi, se, tb, va, bz, jF, jT) V C := by
  have g := mc_pt_ge m nv N
  have w1 := mc_w_pos V
  refine mc_x_nf (by omega) hB.2 (fun j hj h1 h2 => ?_) (fun i hi => ?_)
  · exact K j N nv nc ns tb (Nat.le_refl _) hj h1 h2 (fun _ _ => rfl) (fun _ _ => rfl) hB (by omega)
  · refine K N (N + 1) _ _ _ _ (by omega) (by omega) pk_us pk_us (fun i hi => pk_un (by omega)) (fun i hi => pk_un (by omega)) (mc_Bs_new hB hV hC) ?_
    rw [mc_pt_s, mc_pt_congr (nv := nv) (fun i hi => pk_un (by omega))]
    unfold mc_pf
    rw [if_neg (by omega), pk_us]
    exact Nat.le_refl _
/-- while the diagram grows: the nodes below m are worked out -/
def mc_BF (n : Nat) (ap an : Nat → Int32) (m N : Nat) (nv nc ns kd de fi se tb : Nat → Int32) : Prop :=
  m ≤ N ∧ mc_Bs n N nv nc ns tb ∧ mc_pt m nv N ≤ 511 ∧ 0 < N ∧ nv 0 = 255 ∧ nc 0 = ((1 : Int32) <<< (nI n &&& 31)) - 1 ∧ ∀ i, i < m → mc_Nd n ap an nv nc kd de fi se N i
theorem mc_BF_next {nv' nc' ns' kd' de' fi' se' tb' : Nat → Int32} {N' : Nat} (H : mc_BF n ap an m N nv nc ns kd de fi se tb) (hm : m < N) (hN : N ≤ N') (hv : ∀ i, i < N → nv' i = nv i) (hc : ∀ i, i < N → nc' i = nc i)
    (hB : mc_Bs n N' nv' nc' ns' tb') (hp : mc_pt (m + 1) nv' N' ≤ 511) (hk : ∀ i, i ≠ m → kd' i = kd i) (hd : ∀ i, i ≠ m → de' i = de i) (hf : ∀ i, i ≠ m → fi' i = fi i) (hs : ∀ i, i ≠ m → se' i = se i)
    (hnew : mc_Nd n ap an nv' nc' kd' de' fi' se' N' m) : mc_BF n ap an (m + 1) N' nv' nc' ns' kd' de' fi' se' tb' := by
  obtain ⟨_, _, _, h0, h1, h2, h3⟩ := H
  refine ⟨by omega, hB, hp, by omega, (hv 0 h0).trans h1, (hc 0 h0).trans h2, fun i hi => ?_⟩
  by_cases e : i = m
  · rw [e]; exact hnew
  · exact mc_Nd_ext (by omega) hN hv hc (hk i e) (hd i e) (hf i e) (hs i e) (h3 i (by omega))
theorem mc_BF_leaf {k : Int32} (H : mc_BF n ap an m N nv nc ns kd de fi se tb) (hm : m < N) (h : mc_Nd n ap an nv nc (upd kd m k) de fi se N m) : mc_BF n ap an (m + 1) N nv nc ns (upd kd m k) de fi se tb := by
  have H' := H
  obtain ⟨_, hB, hp, _⟩ := H'
  have s := mc_pt_step (nv := nv) hm
  have w1 := mc_w_pos (nv m)
  exact mc_BF_next H hm (Nat.le_refl _) (fun _ _ => rfl) (fun _ _ => rfl) hB (by omega) (fun i hi => pk_un hi) (fun _ _ => rfl) (fun _ _ => rfl) (fun _ _ => rfl) h
end
end
section
/-! the component: workOut, build -/
theorem mc_dec_ne {j v : Nat} : (!decide (j = v)) = decide (j ≠ v) := by
  by_cases h : j = v
  · rw [decide_eq_true h, decide_eq_false (fun z => z h)]; rfl
  · rw [decide_eq_false h, decide_eq_true h]; rfl
section
variable {dr ct bu nd : Int32} {ad ap an wf wt nv nc ns kd de fi se tb va bz jF jT : Nat → Int32} {n N m : Nat}
theorem mc_Nd_2 {f s : Nat} {P O U Q V C : Int32} (hf : f < N) (hs : s < N) (k2 : kd m = 2) (ef : fi m = nI f) (es : se m = nI s) (eV : nv m = V) (eC : nc m = C) (f1 : nv f = P) (f2 : nc f = O) (s1 : nv s = U) (s2 : nc s = Q)
    (p1 : mc_pop P < mc_pop V) (p2 : mc_pop U < mc_pop V) (h1 : ∀ v, bt V v = (bt P v || bt U v)) (h2 : ∀ v, bt P v = true → bt U v = true → False) (h3 : ∀ a, mc_m n ap an V C a = (mc_m n ap an P O a && mc_m n ap an U Q a)) :
    mc_Nd n ap an nv nc kd de fi se N m := by
  unfold mc_Nd mc_N2
  refine Or.inr (Or.inr (Or.inl ⟨k2, f, s, hf, hs, ef, es, ?_⟩))
  rw [eV, eC, f1, f2, s1, s2]
  exact ⟨p1, p2, h1, h2, h3⟩
theorem mc_Nd_3 {v f s : Nat} {O U Q V C : Int32} (hv : v < 8) (hf : f < N) (hs : s < N) (k3 : kd m = 3) (ed : de m = nI v) (ef : fi m = nI f) (es : se m = nI s) (eV : nv m = V) (eC : nc m = C) (f1 : nv f = U) (f2 : nc f = O) (s1 : nv s = U) (s2 : nc s = Q)
    (p1 : mc_pop U < mc_pop V) (hb : bt V v = true) (h1 : ∀ j, bt U j = (bt V j && decide (j ≠ v))) (hT : ∀ a : Nat → Bool, a v = true → mc_m n ap an V C a = mc_m n ap an U O a) (hF : ∀ a : Nat → Bool, a v = false → mc_m n ap an V C a = mc_m n ap an U Q a) :
    mc_Nd n ap an nv nc kd de fi se N m := by
  unfold mc_Nd mc_N3
  refine Or.inr (Or.inr (Or.inr ⟨k3, v, f, s, hv, hf, hs, ed, ef, es, ?_⟩))
  rw [eV, eC, f1, f2, s1, s2]
  exact ⟨p1, p1, hb, h1, h1, hT, hF⟩
/-- a set and what it leaves -/
theorem mc_part {V P : Int32} (hs : ∀ v, bt P v = true → bt V v = true) (v : Nat) : bt V v = (bt P v || bt (V &&& (P ^^^ (-1))) v) := by
  rw [mc_not]
  cases e : bt P v
  · rw [Bool.not_false, Bool.and_true, Bool.false_or]
  · rw [hs v e]; rfl
theorem mc_part_d {V P : Int32} (v : Nat) (h1 : bt P v = true) (h2 : bt (V &&& (P ^^^ (-1))) v = true) : False := by
  rw [mc_not, h1, Bool.not_true, Bool.and_false] at h2
  exact absurd h2 (by decide)
theorem mc_x_workOut {post : SX → Prop} (hn : n ≤ 14) (hm : m < N) (H : mc_BF n ap an m N nv nc ns kd de fi se tb)
    (K : ∀ (N' : Nat) (nv' nc' ns' kd' de' fi' se' tb' : Nat → Int32), mc_BF n ap an (m + 1) N' nv' nc' ns' kd' de' fi' se' tb' → post (dr, nI n, bu, nI N', ad, ap, an, wf, wt, nv', nc', ns', kd', de', fi', se', tb', va, bz, jF, jT)) :
    wpX_workOut post (dr, nI n, bu, nI N, ad, ap, an, wf, wt, nv, nc, ns, kd, de, fi, se, tb, va, bz, jF, jT) (nI m) := by
  have H' := H
  obtain ⟨_, hB, hp, _⟩ := H'
  have g := mc_pt_ge m nv N
  have st := mc_pt_step (nv := nv) hm
  obtain ⟨hV, hC, hS⟩ := hB.1 m hm
  have cm : (nI m).toNatClampNeg = m := nI_clamp (by omega)
  have im : vp_in (nI m) 512 := vp_in_nI (by omega) (by decide)
  refine And.intro im (nm_r (e' := nv m) (by rw [cm]) (And.intro im (nm_r (e' := nc m) (by rw [cm]) (mc_x_hasEmpty hn (fun hE => br_t rfl ?_) (fun c hc hb h0 => br_f mc_10 ?_)))))
  · refine br_c (fun h0 => ?_) (fun h0 => ?_)
    · refine And.intro im (nm_r (e' := upd kd m 0) (by rw [cm]) (K N nv nc ns _ de fi se tb (mc_BF_leaf H hm ?_)))
      exact Or.inr (Or.inl ⟨pk_us, fun a => mc_always h0 a⟩)
    · have hC1 : ∃ c, c < n ∧ bt (nc m) c = true := by
        apply Classical.byContradiction
        intro z
        refine h0 (mc_z.mpr (fun i => ?_))
        rcases Nat.lt_or_ge i n with l | l
        · exact Bool.eq_false_iff.mpr (fun y => z ⟨i, l, y⟩)
        · exact hC i l
      refine mc_x_together hn hV hC1 hE (fun P hP hP0 hclo => br_c (fun hPV => ?_) (fun hPV => ?_))
      · have hne : ∃ v, v < 8 ∧ bt (nv m) v = true := by
          apply Classical.byContradiction
          intro z
          refine hP0 (mc_z.mpr (fun i => ?_))
          rw [hPV]
          rcases Nat.lt_or_ge i 8 with l | l
          · exact Bool.eq_false_iff.mpr (fun y => z ⟨i, l, y⟩)
          · exact hV i l
        refine mc_x_busiest hn hne (fun v hv hb => nm_e (mc_x_leftT hn hv (fun CT hT => mc_x_leftF hn hv (fun CF hF => ?_))))
        have hU : ∀ j, bt (nv m &&& (((1 : Int32) <<< (nI v &&& 31)) ^^^ (-1))) j = (bt (nv m) j && decide (j ≠ v)) := fun j => by
          rw [mc_not, mc_shl1 (by omega), mc_dec_ne]
        have hU8 : ∀ j, 8 ≤ j → bt (nv m &&& (((1 : Int32) <<< (nI v &&& 31)) ^^^ (-1))) j = false := fun j hj => by rw [hU, hV j hj, Bool.false_and]
        have hpop : mc_pop (nv m &&& (((1 : Int32) <<< (nI v &&& 31)) ^^^ (-1))) < mc_pop (nv m) := by
          refine mc_pop_lt hV (fun j hj => ?_) (fun e => ?_)
          · rw [hU, mc_and_t] at hj; exact hj.1
          · have := hU v
            rw [e, hb, decide_eq_false (fun z => z rfl)] at this
            exact absurd this (by decide)
        generalize nv m &&& (((1 : Int32) <<< (nI v &&& 31)) ^^^ (-1)) = U at hU hU8 hpop ⊢
        have hw := mc_w_two hpop hpop
        have hCT : ∀ j, n ≤ j → bt CT j = false := fun j hj => by rw [hT, hC j hj, Bool.false_and]
        have hCF : ∀ j, n ≤ j → bt CF j = false := fun j hj => by rw [hF, hC j hj, Bool.false_and]
        refine And.intro im (nm_r (e' := upd kd m 3) (by rw [cm]) (And.intro im (nm_r (e' := upd de m (nI v)) (by rw [cm])
          (mc_x_nodeFor (m := m + 1) (n := n) (by omega) hB (by omega) hU8 hCT (fun j1 N1 nv1 nc1 ns1 tb1 hN1 hj1 a1 b1 hv1 hc1 hB1 hp1 => And.intro im (nm_r (e' := upd fi m (nI j1)) (by rw [cm])
            (mc_x_nodeFor (m := m + 1) (n := n) (by omega) hB1 (by omega) hU8 hCF (fun j2 N2 nv2 nc2 ns2 tb2 hN2 hj2 a2 b2 hv2 hc2 hB2 hp2 => And.intro im (nm_r (e' := upd se m (nI j2)) (by rw [cm]) (K N2 nv2 nc2 ns2 _ _ _ _ tb2 ?_))))))))))
        refine mc_BF_next H hm (by omega) (fun i hi => (hv2 i (by omega)).trans (hv1 i hi)) (fun i hi => (hc2 i (by omega)).trans (hc1 i hi)) hB2 (by omega) (fun i hi => pk_un hi) (fun i hi => pk_un hi) (fun i hi => pk_un hi) (fun i hi => pk_un hi) ?_
        refine mc_Nd_3 (V := nv m) (C := nc m) (U := U) hv (show j1 < N2 by omega) hj2 pk_us pk_us pk_us pk_us ((hv2 m (by omega)).trans (hv1 m hm)) ((hc2 m (by omega)).trans (hc1 m hm)) ((hv2 j1 hj1).trans a1) ((hc2 j1 hj1).trans b1) a2 b2 hpop hb hU ?_ ?_
        · exact fun a ha => mc_deciT hv hb hU (fun c hc => by rw [hT, decide_eq_true hc, Bool.true_and]) a ha
        · exact fun a ha => mc_deciF hv hb hU (fun c hc => by rw [hF, decide_eq_true hc, Bool.true_and]) a ha
      · refine mc_x_clausesWith hn (fun O hO => ?_)
        have hP8 : ∀ j, 8 ≤ j → bt P j = false := fun j hj => by
          cases e : bt P j
          · rfl
          · have := hP j e; rw [hV j hj] at this; exact absurd this (by decide)
        have hU8 : ∀ j, 8 ≤ j → bt (nv m &&& (P ^^^ (-1))) j = false := fun j hj => by rw [mc_not, hV j hj, Bool.false_and]
        have hOn : ∀ j, n ≤ j → bt O j = false := fun j hj => Bool.eq_false_iff.mpr (fun z => by have := ((hO j).mp z).1; omega)
        have hQn : ∀ j, n ≤ j → bt (nc m &&& (O ^^^ (-1))) j = false := fun j hj => by rw [mc_not, hC j hj, Bool.false_and]
        have p1 : mc_pop P < mc_pop (nv m) := mc_pop_lt hV hP hPV
        have p2 : mc_pop (nv m &&& (P ^^^ (-1))) < mc_pop (nv m) := by
          refine mc_pop_lt hV (fun j hj => ?_) (fun e => hP0 (mc_z.mpr (fun i => ?_)))
          · rw [mc_not, mc_and_t] at hj; exact hj.1
          · cases z : bt P i
            · rfl
            · exact absurd (mc_part_d i z (by rw [e]; exact hP i z)) id
        have hw := mc_w_two p1 p2
        have hsem : ∀ a, mc_m n ap an (nv m) (nc m) a = (mc_m n ap an P O a && mc_m n ap an (nv m &&& (P ^^^ (-1))) (nc m &&& (O ^^^ (-1))) a) := fun a =>
          mc_beside hP hclo (fun c hc => by rw [hO]; exact ⟨fun z => z.2, fun z => ⟨hc, z⟩⟩) (fun v => mc_not _ _ _) (fun c => mc_not _ _ _) a
        have hor : ∀ v, bt (nv m) v = (bt P v || bt (nv m &&& (P ^^^ (-1))) v) := fun v => mc_part hP v
        have hdis : ∀ v, bt P v = true → bt (nv m &&& (P ^^^ (-1))) v = true → False := fun v => mc_part_d v
        generalize nv m &&& (P ^^^ (-1)) = U at hU8 p2 hw hsem hor hdis ⊢
        generalize nc m &&& (O ^^^ (-1)) = Q at hQn hsem ⊢
        refine And.intro im (nm_r (e' := upd kd m 2) (by rw [cm])
          (mc_x_nodeFor (m := m + 1) (n := n) (by omega) hB (by omega) hP8 hOn (fun j1 N1 nv1 nc1 ns1 tb1 hN1 hj1 a1 b1 hv1 hc1 hB1 hp1 => And.intro im (nm_r (e' := upd fi m (nI j1)) (by rw [cm])
            (mc_x_nodeFor (m := m + 1) (n := n) (by omega) hB1 (by omega) hU8 hQn (fun j2 N2 nv2 nc2 ns2 tb2 hN2 hj2 a2 b2 hv2 hc2 hB2 hp2 => And.intro im (nm_r (e' := upd se m (nI j2)) (by rw [cm]) (K N2 nv2 nc2 ns2 _ de _ _ tb2 ?_))))))))
        refine mc_BF_next H hm (by omega) (fun i hi => (hv2 i (by omega)).trans (hv1 i hi)) (fun i hi => (hc2 i (by omega)).trans (hc1 i hi)) hB2 (by omega) (fun i hi => pk_un hi) (fun i hi => rfl) (fun i hi => pk_un hi) (fun i hi => pk_un hi) ?_
        exact mc_Nd_2 (V := nv m) (C := nc m) (show j1 < N2 by omega) hj2 pk_us pk_us pk_us ((hv2 m (by omega)).trans (hv1 m hm)) ((hc2 m (by omega)).trans (hc1 m hm)) ((hv2 j1 hj1).trans a1) ((hc2 j1 hj1).trans b1) a2 b2 p1 p2 hor hdis hsem
  · refine And.intro im (nm_r (e' := upd kd m 1) (by rw [cm]) (K N nv nc ns _ de fi se tb (mc_BF_leaf H hm ?_)))
    exact Or.inl ⟨pk_us, fun a => mc_never hc hb h0 a⟩
theorem mc_x_bd53 {post : SX → Prop} (hn : n ≤ 14)
    (K : ∀ (N' : Nat) (nv' nc' ns' kd' de' fi' se' tb' : Nat → Int32), mc_Dg n ap an nv' nc' ns' kd' de' fi' se' N' → post (dr, nI n, 1, nI N', ad, ap, an, wf, wt, nv', nc', ns', kd', de', fi', se', tb', va, bz, jF, jT)) :
    ∀ (d m N : Nat) (nv nc ns kd de fi se tb : Nat → Int32), m + d = 512 → mc_BF n ap an m N nv nc ns kd de fi se tb → wX_build_53 post (d + 1) (nI m) dr (nI n) bu (nI N) ad ap an wf wt nv nc ns kd de fi se tb va bz jF jT := by
  intro d
  induction d with
  | zero =>
    intro m N nv nc ns kd de fi se tb hm H
    obtain ⟨h1, _, h2, _⟩ := H
    have g := mc_pt_ge m nv N
    omega
  | succ d ih =>
    intro m N nv nc ns kd de fi se tb hm H
    have H' := H
    obtain ⟨h1, hB, h2, h3, h4, h5, h6⟩ := H'
    have g := mc_pt_ge m nv N
    by_cases e : N ≤ m
    · obtain rfl : N = m := by omega
      exact br_t (nI_le e (by omega)) (K N nv nc ns kd de fi se tb ⟨h3, by omega, h4, h5, fun i hi => (hB.1 i hi).2.2, h6⟩)
    · exact br_f (nI_ge (by omega) (by omega)) (br_f (nI_ge (b := 512) (by omega) (by decide)) (mc_x_workOut hn (by omega) H (fun N' nv' nc' ns' kd' de' fi' se' tb' H2 => nm_r (nI_1 m) (ih (m + 1) N' nv' nc' ns' kd' de' fi' se' tb' (by omega) H2))))
theorem mc_pop255 : mc_pop 255 = 8 := by decide +kernel
theorem mc_x_bd10 {post : SX → Prop} (hn : n ≤ 14)
    (K : ∀ (N' : Nat) (nv' nc' ns' kd' de' fi' se' tb' : Nat → Int32), mc_Dg n ap an nv' nc' ns' kd' de' fi' se' N' → post (dr, nI n, 1, nI N', ad, ap, an, wf, wt, nv', nc', ns', kd', de', fi', se', tb', va, bz, jF, jT)) :
    ∀ (d i : Nat) (tb : Nat → Int32), i + d = 1024 → (∀ j, j < i → tb j < 0) → wX_build_10 post dr (nI n) bu nd (d + 1) (nI i) ad ap an wf wt nv nc ns kd de fi se tb va bz jF jT := by
  intro d
  induction d with
  | zero =>
    intro i tb hi h
    have hT : ∀ i, i < 1024 → tb i < 0 ∨ ∃ j, j < 0 ∧ tb i = nI j := fun k hk => Or.inl (h k (by omega))
    refine br_t (nI_le (a := 1024) (by omega) (by omega)) (mc_x_nf (N := 0) (by decide) hT (fun j hj => absurd hj (by omega)) (fun k hk => ⟨_, mc_x_bd53 hn K 512 0 1 _ _ _ kd de fi se _ (by omega) ?_⟩))
    have hB : mc_Bs n 0 nv nc ns tb := ⟨fun i hi => absurd hi (by omega), hT⟩
    refine ⟨by omega, mc_Bs_new hB (fun j hj => by rw [b_255]; exact decide_eq_false (by omega)) (fun j hj => by rw [mc_full n (by omega)]; exact decide_eq_false (by omega)), ?_, by omega, pk_us, pk_us, fun i hi => absurd hi (by omega)⟩
    rw [mc_pt_s]
    unfold mc_pf mc_w
    rw [if_neg (by omega), pk_us, mc_pop255]
    show 0 + (2 ^ (8 + 1) - 1) ≤ 511
    decide
  | succ d ih =>
    intro i tb hi h
    refine br_f (nI_ge (b := 1024) (by omega) (by omega)) (And.intro (vp_in_nI (by omega) (by decide)) (nm_r (e' := upd tb i (-1)) (by rw [nI_clamp (by omega)]) (nm_r (nI_1 i) (ih (i + 1) _ (by omega) (fun j hj => ?_)))))
    by_cases e : j = i
    · subst e; rw [pk_us]; decide
    · rw [pk_un e]; exact h j (by omega)
theorem mc_x_build {post : SX → Prop} (hn : n ≤ 14) (hb : bu = 0 ∨ (bu = 1 ∧ ∃ N, nd = nI N ∧ mc_Dg n ap an nv nc ns kd de fi se N))
    (K : ∀ (N' : Nat) (nv' nc' ns' kd' de' fi' se' tb' : Nat → Int32), mc_Dg n ap an nv' nc' ns' kd' de' fi' se' N' → post (dr, nI n, 1, nI N', ad, ap, an, wf, wt, nv', nc', ns', kd', de', fi', se', tb', va, bz, jF, jT)) :
    wpX_build post (dr, nI n, bu, nd, ad, ap, an, wf, wt, nv, nc, ns, kd, de, fi, se, tb, va, bz, jF, jT) := by
  rcases hb with rfl | ⟨rfl, N, rfl, hD⟩
  · exact br_t rfl ⟨_, mc_x_bd10 hn K 1024 0 tb (by omega) (fun j hj => absurd hj (by omega))⟩
  · exact br_f mc_10 (K N nv nc ns kd de fi se tb hD)
end
end
section
/-! values: the weighted sum of a node, and the root's as a sum over all 256 -/
def mc_DW (T F : Nat → Int32) (v : Nat) (x y : Int32) : Int32 := T v * x + F v * y
def mc_E (b : Bool) : Int32 := if b = true then 1 else 0
noncomputable def mc_wv (T F : Nat → Int32) (n : Nat) (ap an : Nat → Int32) (V C : Int32) : Int32 := mc_val (mc_DW T F) mc_E n ap an V C
theorem mc_DW_D (T F : Nat → Int32) (u v : Nat) (x y z w : Int32) : mc_DW T F u (mc_DW T F v x y) (mc_DW T F v z w) = mc_DW T F v (mc_DW T F u x z) (mc_DW T F u y w) := by unfold mc_DW; grind
theorem mc_DW_l (T F : Nat → Int32) (v : Nat) (x y z : Int32) : mc_DW T F v x y * z = mc_DW T F v (x * z) (y * z) := by unfold mc_DW; grind
theorem mc_DW_r (T F : Nat → Int32) (v : Nat) (x y z : Int32) : x * mc_DW T F v y z = mc_DW T F v (x * y) (x * z) := by unfold mc_DW; grind
theorem mc_DW_0 (T F : Nat → Int32) (v : Nat) : mc_DW T F v 0 0 = 0 := by unfold mc_DW; grind
theorem mc_DW_s (T F : Nat → Int32) (v : Nat) (x : Int32) : mc_DW T F v x x = x * (T v + F v) := by unfold mc_DW; grind
theorem mc_E_t : mc_E true = 1 := if_pos rfl
theorem mc_E_f : mc_E false = 0 := if_neg (by decide)
theorem mc_E_and (p q : Bool) : mc_E p * mc_E q = mc_E (p && q) := by cases p <;> cases q <;> decide
section
variable {dr ct bu nd : Int32} {ad ap an wf wt nv nc ns kd de fi se tb va bz jF jT : Nat → Int32} {n N m : Nat}
theorem mc_x_ev {post : Int32 → Prop} (hm : m < 512) (K : post (mc_fr (mc_DW jT jF) 1 (bt (nv m)) 8)) :
    ∀ d v, v + d = 8 → wX_evaluated_105 post (nI m) dr ct bu nd ad ap an wf wt nv nc ns kd de fi se tb va bz jF jT (d + 1) (mc_fr (mc_DW jT jF) 1 (bt (nv m)) v) (nI v) := by
  intro d
  have cm : (nI m).toNatClampNeg = m := nI_clamp (by omega)
  induction d with
  | zero =>
    intro v hv
    obtain rfl : v = 8 := by omega
    exact br_t (nI_le (a := 8) (by omega) (by omega)) K
  | succ d ih =>
    intro v hv
    have i1 := ih (v + 1) (by omega)
    have iv : vp_in (nI v) 8 := vp_in_nI (by omega) (by decide)
    have e1 : mc_fr (mc_DW jT jF) 1 (bt (nv m)) (v + 1) = if bt (nv m) v = true then mc_DW jT jF v (mc_fr (mc_DW jT jF) 1 (bt (nv m)) v) (mc_fr (mc_DW jT jF) 1 (bt (nv m)) v) else mc_fr (mc_DW jT jF) 1 (bt (nv m)) v := rfl
    refine br_f (nI_ge (b := 8) (by omega) (by omega)) (And.intro (vp_in_nI hm (by decide)) ?_)
    rw [cm, nI_clamp (show v < 2 ^ 31 by omega)]
    refine ek_if (mc_b1_iff (by omega)) (fun hb => And.intro iv (And.intro iv ?_)) (fun hb => nm_r (nI_1 v) ?_)
    · rw [e1, if_pos hb, mc_DW_s] at i1
      exact nm_e (nm_r (nI_1 v) i1)
    · rw [e1, if_neg hb] at i1
      exact i1
theorem mc_x_evaluated {post : Int32 → Prop} (hm : m < N) (hN : N ≤ 511) (hNd : mc_Nd n ap an nv nc kd de fi se N m) (hval : ∀ f, f < N → mc_pop (nv f) < mc_pop (nv m) → va f = mc_wv jT jF n ap an (nv f) (nc f))
    (K : post (mc_wv jT jF n ap an (nv m) (nc m))) : wpX_evaluated post (dr, ct, bu, nd, ad, ap, an, wf, wt, nv, nc, ns, kd, de, fi, se, tb, va, bz, jF, jT) (nI m) := by
  have cm : (nI m).toNatClampNeg = m := nI_clamp (by omega)
  have im : vp_in (nI m) 512 := vp_in_nI (by omega) (by decide)
  refine And.intro im ?_
  rw [cm]
  rcases hNd with ⟨k1, h⟩ | ⟨k0, h⟩ | ⟨k2, f, s, hf, hs, ef, es, p1, p2, h1, h2, h3⟩ | ⟨k3, v, f, s, hv, hf, hs, ed, ef, es, p1, p2, hb, h1, h2, hT, hF⟩
  · have e : mc_wv jT jF n ap an (nv m) (nc m) = 0 := by
      unfold mc_wv
      rw [mc_val_const h, mc_E_f]
      exact mc_fr_z (fun k => mc_DW_0 jT jF k) _ _
    rw [e] at K
    exact br_t k1 K
  · have e : mc_wv jT jF n ap an (nv m) (nc m) = mc_fr (mc_DW jT jF) 1 (bt (nv m)) 8 := by
      unfold mc_wv
      rw [mc_val_const h, mc_E_t]
    rw [e] at K
    exact br_f (by rw [k0]; decide) (And.intro im (br_f (by rw [k0]; decide) (And.intro im (br_f (by rw [k0]; decide) ⟨_, mc_x_ev (by omega) K 8 0 (by omega)⟩))))
  · have e : mc_wv jT jF n ap an (nv m) (nc m) = va f * va s := by
      rw [hval f hf p1, hval s hs p2]
      exact mc_val_two (B := fun x y => x * y) mc_E_and (fun v x y z => mc_DW_l jT jF v x y z) (fun v x y z => mc_DW_r jT jF v x y z) h1 h2 h3
    rw [e] at K
    refine br_f (by rw [k2]; decide) (And.intro im (br_t k2 (And.intro im ?_)))
    rw [ef, es, nI_clamp (show f < 2 ^ 31 by omega), nI_clamp (show s < 2 ^ 31 by omega)]
    exact And.intro (vp_in_nI (by omega) (by decide)) (And.intro im (And.intro (vp_in_nI (by omega) (by decide)) K))
  · have e : mc_wv jT jF n ap an (nv m) (nc m) = jT v * va f + jF v * va s := by
      rw [hval f hf p1, hval s hs p2]
      exact mc_val_dec (fun u v x y z w => mc_DW_D jT jF u v x y z w) hv hb h1 h2 hT hF
    rw [e] at K
    refine br_f (by rw [k3]; decide) (And.intro im (br_f (by rw [k3]; decide) (And.intro im (br_t k3 (And.intro im (nm_r ed ?_))))))
    have iv : vp_in (nI v) 8 := vp_in_nI (by omega) (by decide)
    rw [ef, es, nI_clamp (show f < 2 ^ 31 by omega), nI_clamp (show s < 2 ^ 31 by omega), nI_clamp (show v < 2 ^ 31 by omega)]
    exact And.intro iv (And.intro im (And.intro (vp_in_nI (by omega) (by decide)) (And.intro iv (And.intro im (And.intro (vp_in_nI (by omega) (by decide)) K)))))
/-- the values so far: sizes below s, and of size s those below m -/
def mc_VI (T F : Nat → Int32) (n : Nat) (ap an nv nc : Nat → Int32) (N s m : Nat) (va : Nat → Int32) : Prop :=
  ∀ i, i < N → (mc_pop (nv i) < s ∨ (mc_pop (nv i) = s ∧ i < m)) → va i = mc_wv T F n ap an (nv i) (nc i)
theorem mc_x_p14 {post : Int32 → SX → Prop} {J : Int32 → (Nat → Int32) → (Nat → Int32) → (Nat → Int32) → (Nat → Int32) → (Nat → Int32) → (Nat → Int32) → (Nat → Int32) → (Nat → Int32) → (Nat → Int32) → (Nat → Int32) → (Nat → Int32) → (Nat → Int32) → (Nat → Int32) → (Nat → Int32) → (Nat → Int32) → (Nat → Int32) → (Nat → Int32) → Prop} {s : Nat}
    (hs9 : s < 9) (hD : mc_Dg n ap an nv nc ns kd de fi se N) (K : ∀ va' : Nat → Int32, mc_VI jT jF n ap an nv nc N (s + 1) 0 va' → J (nI (s + 1)) ad ap an wf wt nv nc ns kd de fi se tb va' bz jF jT) :
    ∀ (d m : Nat) (va : Nat → Int32), m + d = N → mc_VI jT jF n ap an nv nc N s m va → wX_pass_14 post J (nI s) dr (nI n) bu (nI N) (d + 1) (nI m) ad ap an wf wt nv nc ns kd de fi se tb va bz jF jT := by
  intro d
  obtain ⟨_, hN, _, _, hns, hNd⟩ := hD
  induction d with
  | zero =>
    intro m va hm h
    refine br_t (nI_le (by omega) (by omega)) (nm_r (nI_1 s) (K va (fun i hi hp => h i hi ?_)))
    rcases hp with hp | hp
    · rcases Nat.lt_or_ge (mc_pop (nv i)) s with l | l
      · exact Or.inl l
      · exact Or.inr ⟨by omega, by omega⟩
    · exact absurd hp.2 (by omega)
  | succ d ih =>
    intro m va hm h
    have cm : (nI m).toNatClampNeg = m := nI_clamp (by omega)
    have im : vp_in (nI m) 512 := vp_in_nI (by omega) (by decide)
    refine br_f (nI_ge (by omega) (by omega)) (And.intro im ?_)
    rw [cm, hns m (by omega)]
    have hpm := mc_pop_le (nv m)
    refine ek_if (nI_eq (by omega) (by omega)) (fun e => mc_x_evaluated (n := n) (N := N) (by omega) hN (hNd m (by omega)) (fun f hf hp => h f hf (Or.inl (by omega))) (And.intro im (nm_r (e' := upd va m (mc_wv jT jF n ap an (nv m) (nc m))) rfl (nm_r (nI_1 m) (ih (m + 1) _ (by omega) (fun i hi hp => ?_)))))) (fun e => nm_r (nI_1 m) (ih (m + 1) va (by omega) (fun i hi hp => h i hi ?_)))
    · by_cases z : i = m
      · rw [z]; exact pk_us
      · rw [pk_un z]
        refine h i hi ?_
        rcases hp with hp | hp
        · exact Or.inl hp
        · exact Or.inr ⟨hp.1, by omega⟩
    · rcases hp with hp | hp
      · exact Or.inl hp
      · refine Or.inr ⟨hp.1, ?_⟩
        rcases Nat.lt_or_ge i m with l | l
        · exact l
        · obtain rfl : i = m := by omega
          exact absurd hp.1 e
theorem mc_x_p6 {post : Int32 → SX → Prop} (hD : mc_Dg n ap an nv nc ns kd de fi se N) (K : ∀ va' : Nat → Int32, post (mc_wv jT jF n ap an (nv 0) (nc 0)) (dr, nI n, bu, nI N, ad, ap, an, wf, wt, nv, nc, ns, kd, de, fi, se, tb, va', bz, jF, jT)) :
    ∀ (d s : Nat) (va : Nat → Int32), s + d = 9 → mc_VI jT jF n ap an nv nc N s 0 va → wX_pass_6 post dr (nI n) bu (nI N) (d + 1) (nI s) ad ap an wf wt nv nc ns kd de fi se tb va bz jF jT := by
  intro d
  induction d with
  | zero =>
    intro s va hs h
    refine br_t (nI_lt (a := 8) (by omega) (by omega)) ?_
    have hp := mc_pop_le (nv 0)
    rw [h 0 hD.1 (Or.inl (by omega))]
    exact K va
  | succ d ih =>
    intro s va hs h
    exact br_f (nI_nlt (a := 8) (by omega) (by decide)) ⟨_, mc_x_p14 (by omega) hD (fun va' h' => ih (s + 1) va' (by omega) h') N 0 va (by omega) h⟩
theorem mc_x_pass {post : Int32 → SX → Prop} (hn : n ≤ 14) (hb : bu = 0 ∨ (bu = 1 ∧ ∃ N, nd = nI N ∧ mc_Dg n ap an nv nc ns kd de fi se N))
    (K : ∀ (N' : Nat) (nv' nc' ns' kd' de' fi' se' tb' va' : Nat → Int32), mc_Dg n ap an nv' nc' ns' kd' de' fi' se' N' →
      post (mc_wv jT jF n ap an 255 (((1 : Int32) <<< (nI n &&& 31)) - 1)) (dr, nI n, 1, nI N', ad, ap, an, wf, wt, nv', nc', ns', kd', de', fi', se', tb', va', bz, jF, jT)) :
    wpX_pass post (dr, nI n, bu, nd, ad, ap, an, wf, wt, nv, nc, ns, kd, de, fi, se, tb, va, bz, jF, jT) := by
  refine mc_x_build hn hb (fun N' nv' nc' ns' kd' de' fi' se' tb' hD => ⟨_, mc_x_p6 hD (fun va' => ?_) 9 0 va (by omega) (fun i hi hp => ?_)⟩)
  · rw [hD.2.2.1, hD.2.2.2.1]
    exact K N' nv' nc' ns' kd' de' fi' se' tb' va' hD
  · rcases hp with hp | hp
    · omega
    · omega
end
/-! the root's value -/
def mc_hp (T F : Nat → Int32) (a : Nat → Bool) : Nat → Nat → Int32
  | _, 0 => 1
  | k, d + 1 => (if a k = true then T k else F k) * mc_hp T F a (k + 1) d
theorem mc_hp_s (T F : Nat → Int32) (a : Nat → Bool) (k d : Nat) : mc_hp T F a k (d + 1) = (if a k = true then T k else F k) * mc_hp T F a (k + 1) d := rfl
theorem mc_hp_congr {T F : Nat → Int32} {a b : Nat → Bool} (d : Nat) : ∀ k, (∀ j, k ≤ j → a j = b j) → mc_hp T F a k d = mc_hp T F b k d := by
  induction d with
  | zero => intro k _; rfl
  | succ d ih =>
    intro k h
    rw [mc_hp_s, mc_hp_s, h k (Nat.le_refl _), ih (k + 1) (fun j hj => h j (by omega))]
theorem mc_hp_pw (T F : Nat → Int32) (x : Nat) (d : Nat) : ∀ k, mc_pw T F x k * mc_hp T F (fun j => x.testBit j) k d = mc_pw T F x (k + d) := by
  induction d with
  | zero => intro k; show mc_pw T F x k * 1 = _; rw [Int32.mul_one]; rfl
  | succ d ih =>
    intro k
    have e := ih (k + 1)
    rw [mc_hp_s, ← Int32.mul_assoc, show k + (d + 1) = k + 1 + d by omega]
    exact e
/-- the bits of q, k places up -/
def mc_up (k q : Nat) (a : Nat → Bool) : Prop := ∀ j, k ≤ j → a j = q.testBit (j - k)
theorem mc_up_set {k q : Nat} {a : Nat → Bool} (h : mc_up (k + 1) q a) (t : Bool) : mc_up k (if t = true then 2 * q + 1 else 2 * q) (mc_set a k t) := by
  intro j hj
  by_cases e : j = k
  · subst e
    rw [mc_set_s, Nat.sub_self, Nat.testBit_zero]
    cases t
    · rw [if_neg (by decide)]; exact (decide_eq_false (by omega)).symm
    · rw [if_pos rfl]; exact (decide_eq_true (by omega)).symm
  · rw [mc_set_n e, h j (by omega), show j - k = (j - (k + 1)) + 1 by omega, Nat.testBit_succ]
    cases t
    · rw [if_neg (by decide), show 2 * q / 2 = q by omega]
    · rw [if_pos rfl, show (2 * q + 1) / 2 = q by omega]
theorem mc_up_0 {q : Nat} {a : Nat → Bool} (h : mc_up 0 q a) : a = fun j => q.testBit j := funext (fun j => h j (Nat.zero_le _))
theorem mc_rt (T F : Nat → Int32) (f : (Nat → Bool) → Bool) : ∀ k d q a, k + d = 8 → mc_up k q a →
    mc_hp T F a k d * mc_sv (mc_DW T F) mc_E (bt 255) f k a = mc_T (fun x => mc_hp T F (fun j => x.testBit j) 0 8 * mc_E (f (fun j => x.testBit j))) k q := by
  intro k
  induction k with
  | zero =>
    intro d q a hd hq
    obtain rfl : d = 8 := by omega
    rw [mc_up_0 hq]
    rfl
  | succ k ih =>
    intro d q a hd hq
    have hk : bt 255 k = true := by rw [b_255]; exact decide_eq_true (by omega)
    have i1 := ih (d + 1) _ _ (by omega) (mc_up_set hq true)
    have i0 := ih (d + 1) _ _ (by omega) (mc_up_set hq false)
    rw [if_pos rfl, mc_hp_s, mc_set_s, if_pos rfl, mc_hp_congr (b := a) d (k + 1) (fun j hj => mc_set_n (by omega))] at i1
    rw [if_neg (by decide), mc_hp_s, mc_set_s, if_neg (by decide), mc_hp_congr (b := a) d (k + 1) (fun j hj => mc_set_n (by omega))] at i0
    rw [mc_sv_t hk]
    show _ = mc_T _ k (2 * q + 1) + mc_T _ k (2 * q)
    rw [← i1, ← i0]
    unfold mc_DW
    grind
theorem mc_root_m {n : Nat} (hn : n ≤ 14) (ap an : Nat → Int32) (x : Nat) : mc_m n ap an 255 (((1 : Int32) <<< (nI n &&& 31)) - 1) (fun j => x.testBit j) = mc_mt n ap an x := by
  refine mc_dec_congr ⟨fun H c hc => H c hc ?_, fun H c hc _ => H c hc⟩
  rw [mc_full n (by omega)]
  exact decide_eq_true hc
/-- the sum over all assignments -/
noncomputable def mc_tot (T F : Nat → Int32) (n : Nat) (ap an : Nat → Int32) : Int32 := bx_sum (fun a => if mc_mt n ap an a = true then mc_pw T F a 8 else 0) 256
theorem mc_root {n : Nat} (hn : n ≤ 14) (T F ap an : Nat → Int32) : mc_wv T F n ap an 255 (((1 : Int32) <<< (nI n &&& 31)) - 1) = mc_tot T F n ap an := by
  have h := mc_rt T F (mc_m n ap an 255 (((1 : Int32) <<< (nI n &&& 31)) - 1)) 8 0 0 (fun _ => false) (by omega) (fun j hj => (Nat.zero_testBit _).symm)
  rw [mc_T_256] at h
  have e : mc_hp T F (fun _ => false) 8 0 = 1 := rfl
  rw [e, Int32.one_mul] at h
  unfold mc_wv mc_val mc_tot
  rw [h]
  refine mc_bs_congr (fun x hx => ?_)
  rw [mc_root_m hn]
  have e2 := mc_hp_pw T F x 8 0
  have e3 : mc_pw T F x 0 = 1 := rfl
  rw [e3, Int32.one_mul, Nat.zero_add] at e2
  rw [e2]
  unfold mc_E
  by_cases z : mc_mt n ap an x = true
  · rw [if_pos z, if_pos z, Int32.mul_one]
  · rw [if_neg z, if_neg z, Int32.mul_zero]
end
section
/-! allow, weigh; the component's state between calls -/
def mc_aT (s t : Int32) (v : Nat) : Int32 := if bt s v = true then (if bt t v = true then 1 else 0) else 1
def mc_aF (s t : Int32) (v : Nat) : Int32 := if bt s v = true then (if bt t v = true then 0 else 1) else 1
theorem mc_pw_congr {T F T' F' : Nat → Int32} (a : Nat) (k : Nat) (h : ∀ j, j < k → T j = T' j ∧ F j = F' j) : mc_pw T F a k = mc_pw T' F' a k := by
  induction k with
  | zero => rfl
  | succ k ih =>
    show mc_pw T F a k * (if a.testBit k = true then T k else F k) = mc_pw T' F' a k * (if a.testBit k = true then T' k else F' k)
    rw [ih (fun j hj => h j (by omega)), (h k (by omega)).1, (h k (by omega)).2]
theorem mc_tot_congr {T F T' F' : Nat → Int32} {n : Nat} {ap an : Nat → Int32} (h : ∀ j, j < 8 → T j = T' j ∧ F j = F' j) : mc_tot T F n ap an = mc_tot T' F' n ap an :=
  mc_bs_congr (fun a _ => by rw [mc_pw_congr a 8 h])
theorem mc_pw_ag {s t : Int32} {a : Nat} (k : Nat) : ((∀ j, j < k → bt s j = true → a.testBit j = bt t j) → mc_pw (mc_aT s t) (mc_aF s t) a k = 1) ∧ (¬ (∀ j, j < k → bt s j = true → a.testBit j = bt t j) → mc_pw (mc_aT s t) (mc_aF s t) a k = 0) := by
  induction k with
  | zero => exact ⟨fun _ => rfl, fun h => absurd (fun j hj => absurd hj (by omega)) h⟩
  | succ k ih =>
    have e1 : mc_pw (mc_aT s t) (mc_aF s t) a (k + 1) = mc_pw (mc_aT s t) (mc_aF s t) a k * (if a.testBit k = true then mc_aT s t k else mc_aF s t k) := rfl
    have e2 : (bt s k = true → a.testBit k = bt t k) → (if a.testBit k = true then mc_aT s t k else mc_aF s t k) = 1 := by
      intro h
      unfold mc_aT mc_aF
      by_cases hs : bt s k = true
      · rw [h hs, if_pos hs, if_pos hs]
        by_cases ht : bt t k = true
        · rw [if_pos ht, if_pos ht]
        · rw [if_neg ht, if_neg ht]
      · rw [if_neg hs, if_neg hs, ite_self]
    have e3 : ¬ (bt s k = true → a.testBit k = bt t k) → (if a.testBit k = true then mc_aT s t k else mc_aF s t k) = 0 := by
      intro h
      unfold mc_aT mc_aF
      have hs : bt s k = true := Classical.byContradiction (fun z => h (fun y => absurd y z))
      have hne : ¬ a.testBit k = bt t k := fun z => h (fun _ => z)
      rw [if_pos hs, if_pos hs]
      cases ha : a.testBit k <;> cases ht : bt t k <;> rw [ha, ht] at hne
      · exact absurd rfl hne
      · decide
      · decide
      · exact absurd rfl hne
    constructor
    · intro h
      rw [e1, ih.1 (fun j hj => h j (by omega)), e2 (h k (by omega))]; rfl
    · intro h
      rw [e1]
      by_cases h1 : ∀ j, j < k → bt s j = true → a.testBit j = bt t j
      · have h2 : ¬ (bt s k = true → a.testBit k = bt t k) := fun z => h (fun j hj => by
          by_cases e : j = k
          · rw [e]; exact z
          · exact h1 j (by omega))
        rw [e3 h2, Int32.mul_zero]
      · rw [ih.2 h1, Int32.zero_mul]
theorem mc_ag_iff {s t : Int32} {a : Nat} (ha : a < 256) (hs : ∀ j, 8 ≤ j → bt s j = false) : nI a &&& s = t &&& s ↔ ∀ j, j < 8 → bt s j = true → a.testBit j = bt t j := by
  constructor
  · intro h j hj hb
    have e : bt (nI a &&& s) j = bt (t &&& s) j := by rw [h]
    rw [b_and, b_and, hb, Bool.and_true, Bool.and_true, mc_bn (by omega)] at e
    exact e
  · intro h
    apply mc_ext
    intro j
    rw [b_and, b_and, mc_bn (by omega)]
    cases hb : bt s j
    · rw [Bool.and_false, Bool.and_false]
    · rcases Nat.lt_or_ge j 8 with l | l
      · rw [h j l hb]
      · rw [hs j l] at hb; exact absurd hb (by decide)
theorem mc_tot_ag {s t : Int32} {n : Nat} {ap an : Nat → Int32} (hs : ∀ j, 8 ≤ j → bt s j = false) : mc_tot (mc_aT s t) (mc_aF s t) n ap an = nI (mc_cn (mc_ag n ap an s t) 256) := by
  rw [← mc_bs_ind]
  refine mc_bs_congr (fun a ha => ?_)
  unfold mc_ag
  by_cases hm : mc_mt n ap an a = true
  · rw [if_pos hm, hm, Bool.and_true]
    by_cases hg : nI a &&& s = t &&& s
    · rw [decide_eq_true hg, if_pos rfl, (mc_pw_ag 8).1 ((mc_ag_iff ha hs).mp hg)]
    · rw [decide_eq_false hg, if_neg (by decide), (mc_pw_ag 8).2 (fun z => hg ((mc_ag_iff ha hs).mpr z))]
  · rw [if_neg hm, Bool.eq_false_iff.mpr hm, Bool.and_false, if_neg (by decide)]
/-- the state between calls: the formula, and whatever diagram -/
def mc_XS (dr : Int32) (n : Nat) (ad ap an wf wt : Nat → Int32) (u : SX) : Prop :=
  ∃ (bu nd : Int32) (nv nc ns kd de fi se tb va bz jF jT : Nat → Int32), u = (dr, nI n, bu, nd, ad, ap, an, wf, wt, nv, nc, ns, kd, de, fi, se, tb, va, bz, jF, jT) ∧ (bu = 0 ∨ (bu = 1 ∧ ∃ N, nd = nI N ∧ mc_Dg n ap an nv nc ns kd de fi se N))
section
variable {dr ct bu nd : Int32} {ad ap an wf wt nv nc ns kd de fi se tb va bz jF jT : Nat → Int32} {n : Nat}
theorem mc_XS_el {P : SX → Prop} {u : SX} (h : ∀ (bu nd : Int32) (nv nc ns kd de fi se tb va bz jF jT : Nat → Int32), (bu = 0 ∨ (bu = 1 ∧ ∃ N, nd = nI N ∧ mc_Dg n ap an nv nc ns kd de fi se N)) → P (dr, nI n, bu, nd, ad, ap, an, wf, wt, nv, nc, ns, kd, de, fi, se, tb, va, bz, jF, jT)) (H : mc_XS dr n ad ap an wf wt u) : P u :=
  Exists.elim H fun bu H => Exists.elim H fun nd H => Exists.elim H fun nv H => Exists.elim H fun nc H => Exists.elim H fun ns H => Exists.elim H fun kd H => Exists.elim H fun de H => Exists.elim H fun fi H => Exists.elim H fun se H => Exists.elim H fun tb H => Exists.elim H fun va H => Exists.elim H fun bz H => Exists.elim H fun jF H => Exists.elim H fun jT H =>
    Eq.mpr (congrArg P H.1) (h bu nd nv nc ns kd de fi se tb va bz jF jT H.2)
theorem mc_XS_1 {N : Nat} (h : mc_Dg n ap an nv nc ns kd de fi se N) : mc_XS dr n ad ap an wf wt (dr, nI n, 1, nI N, ad, ap, an, wf, wt, nv, nc, ns, kd, de, fi, se, tb, va, bz, jF, jT) :=
  ⟨1, nI N, nv, nc, ns, kd, de, fi, se, tb, va, bz, jF, jT, rfl, Or.inr ⟨rfl, N, rfl, h⟩⟩
theorem mc_XS_0 : mc_XS dr n ad ap an wf wt (dr, nI n, 0, nd, ad, ap, an, wf, wt, nv, nc, ns, kd, de, fi, se, tb, va, bz, jF, jT) :=
  ⟨0, nd, nv, nc, ns, kd, de, fi, se, tb, va, bz, jF, jT, rfl, Or.inl rfl⟩
theorem mc_x_a59 {post : SX → Prop} {J : Int32 → (Nat → Int32) → (Nat → Int32) → (Nat → Int32) → (Nat → Int32) → (Nat → Int32) → (Nat → Int32) → (Nat → Int32) → (Nat → Int32) → (Nat → Int32) → (Nat → Int32) → (Nat → Int32) → (Nat → Int32) → (Nat → Int32) → (Nat → Int32) → (Nat → Int32) → (Nat → Int32) → (Nat → Int32) → Prop}
    {x1 x2 x4 x5 z0 zf : Int32} {v : Nat} (hv : v < 8) (hf : (x4 = 0 ∧ x5 = 0 ∧ zf = 1) ∨ (x4 = 0 ∧ ¬ x5 = 0 ∧ zf = 0) ∨ (¬ x4 = 0 ∧ zf = 1)) (K : J (nI (v + 1)) ad ap an wf wt nv nc ns kd de fi se tb va bz (upd jF v zf) (upd jT v z0)) :
    wX_allow_59 post J x1 x2 (nI v) x4 x5 z0 (nI v) dr ct bu nd ad ap an wf wt nv nc ns kd de fi se tb va bz jF jT := by
  have cv : (nI v).toNatClampNeg = v := nI_clamp (by omega)
  have iv : vp_in (nI v) 8 := vp_in_nI hv (by decide)
  refine And.intro iv (nm_r (e' := upd jT v z0) (by rw [cv]) ?_)
  rcases hf with ⟨h4, h5, rfl⟩ | ⟨h4, h5, rfl⟩ | ⟨h4, rfl⟩
  · exact br_t h4 (br_t h5 (And.intro iv (nm_r (e' := upd jF v 1) (by rw [cv]) (nm_r (nI_1 v) K))))
  · exact br_t h4 (br_f h5 (And.intro iv (nm_r (e' := upd jF v 0) (by rw [cv]) (nm_r (nI_1 v) K))))
  · exact br_f h4 (And.intro iv (nm_r (e' := upd jF v 1) (by rw [cv]) (nm_r (nI_1 v) K)))
theorem mc_x_al {post : SX → Prop} {s t : Int32} (K : ∀ jF' jT' : Nat → Int32, (∀ j, j < 8 → jT' j = mc_aT s t j ∧ jF' j = mc_aF s t j) → post (dr, ct, bu, nd, ad, ap, an, wf, wt, nv, nc, ns, kd, de, fi, se, tb, va, bz, jF', jT')) :
    ∀ (d v : Nat) (jF jT : Nat → Int32), v + d = 8 → (∀ j, j < v → jT j = mc_aT s t j ∧ jF j = mc_aF s t j) → wX_allow_2 post s t dr ct bu nd (d + 1) (nI v) ad ap an wf wt nv nc ns kd de fi se tb va bz jF jT := by
  intro d
  induction d with
  | zero =>
    intro v jF jT hv h
    exact br_t (nI_le (a := 8) (by omega) (by omega)) (K jF jT (fun j hj => h j (by omega)))
  | succ d ih =>
    intro v jF jT hv h
    have next : ∀ zt zf, zt = mc_aT s t v → zf = mc_aF s t v → wX_allow_2 post s t dr ct bu nd (d + 1) (nI (v + 1)) ad ap an wf wt nv nc ns kd de fi se tb va bz (upd jF v zf) (upd jT v zt) := by
      intro zt zf ht hf
      refine ih (v + 1) _ _ (by omega) (fun j hj => ?_)
      by_cases e : j = v
      · subst e; rw [pk_us, pk_us]; exact ⟨ht, hf⟩
      · rw [pk_un e, pk_un e]; exact h j (by omega)
    have iT : ∀ z, bt s v = z → ∀ y, bt t v = y → mc_aT s t v = (if z = true then (if y = true then 1 else 0) else 1) := by
      intro z hz y hy; unfold mc_aT; rw [hz, hy]
    have iF : ∀ z, bt s v = z → ∀ y, bt t v = y → mc_aF s t v = (if z = true then (if y = true then 0 else 1) else 1) := by
      intro z hz y hy; unfold mc_aF; rw [hz, hy]
    refine br_f (nI_ge (b := 8) (by omega) (by omega)) (ek_if (mc_b0_iff (by omega)) (fun hs => ek_if (mc_b1_iff (by omega)) (fun ht => ?_) (fun ht => ?_)) (fun hs => ek_if (mc_b1_iff (by omega)) (fun ht => ?_) (fun ht => ?_)))
    · exact br_f mc_10 (mc_x_a59 (by omega) (Or.inr (Or.inr ⟨mc_10, rfl⟩)) (next 1 1 (iT _ hs _ ht).symm (iF _ hs _ ht).symm))
    · have ht' := Bool.eq_false_iff.mpr ht
      exact br_f mc_10 (mc_x_a59 (by omega) (Or.inr (Or.inr ⟨mc_10, rfl⟩)) (next 1 1 (iT _ hs _ ht').symm (iF _ hs _ ht').symm))
    · have hs' : bt s v = true := by
        cases e : bt s v
        · exact absurd e hs
        · rfl
      exact br_t rfl (br_f mc_10 (mc_x_a59 (by omega) (Or.inr (Or.inl ⟨rfl, mc_10, rfl⟩)) (next 1 0 (iT _ hs' _ ht).symm (iF _ hs' _ ht).symm)))
    · have ht' := Bool.eq_false_iff.mpr ht
      have hs' : bt s v = true := by
        cases e : bt s v
        · exact absurd e hs
        · rfl
      exact br_t rfl (br_t rfl (mc_x_a59 (by omega) (Or.inl ⟨rfl, rfl, rfl⟩) (next 0 1 (iT _ hs' _ ht').symm (iF _ hs' _ ht').symm)))
theorem mc_x_allow {post : SX → Prop} {s t : Int32} (K : ∀ jF' jT' : Nat → Int32, (∀ j, j < 8 → jT' j = mc_aT s t j ∧ jF' j = mc_aF s t j) → post (dr, ct, bu, nd, ad, ap, an, wf, wt, nv, nc, ns, kd, de, fi, se, tb, va, bz, jF', jT')) : wpX_allow post (dr, ct, bu, nd, ad, ap, an, wf, wt, nv, nc, ns, kd, de, fi, se, tb, va, bz, jF, jT) s t :=
  ⟨_, mc_x_al K 8 0 jF jT (by omega) (fun j hj => absurd hj (by omega))⟩
/-- a pass over any state between calls -/
theorem mc_x_pa {post : Int32 → SX → Prop} (hn : n ≤ 14) (hb : bu = 0 ∨ (bu = 1 ∧ ∃ N, nd = nI N ∧ mc_Dg n ap an nv nc ns kd de fi se N))
    (K : ∀ u', mc_XS dr n ad ap an wf wt u' → post (mc_tot jT jF n ap an) u') : wpX_pass post (dr, nI n, bu, nd, ad, ap, an, wf, wt, nv, nc, ns, kd, de, fi, se, tb, va, bz, jF, jT) := by
  refine mc_x_pass hn hb (fun N' nv' nc' ns' kd' de' fi' se' tb' va' hD => ?_)
  rw [mc_root hn]
  exact K _ (mc_XS_1 hD)
theorem mc_x_ca {post : Int32 → SX → Prop} {s t : Int32} {u : SX} (hn : n ≤ 14) (hs : ∀ j, 8 ≤ j → bt s j = false) (H : mc_XS dr n ad ap an wf wt u)
    (K : ∀ u', mc_XS dr n ad ap an wf wt u' → post (nI (mc_cn (mc_ag n ap an s t) 256)) u') : wpX_countAllowed post u s t := by
  refine mc_XS_el (P := fun u => wpX_countAllowed post u s t) ?_ H
  intro bu nd nv nc ns kd de fi se tb va bz jF jT hb
  refine mc_x_allow (fun jF' jT' hj => mc_x_pa hn hb (fun u' hu => ?_))
  rw [mc_tot_congr hj, mc_tot_ag hs]
  exact K u' hu
theorem mc_x_we {post : SX → Prop} (K : ∀ jF' jT' : Nat → Int32, (∀ j, j < 8 → jT' j = wt j ∧ jF' j = wf j) → post (dr, ct, bu, nd, ad, ap, an, wf, wt, nv, nc, ns, kd, de, fi, se, tb, va, bz, jF', jT')) :
    ∀ (d v : Nat) (jF jT : Nat → Int32), v + d = 8 → (∀ j, j < v → jT j = wt j ∧ jF j = wf j) → wX_weigh_2 post dr ct bu nd (d + 1) (nI v) ad ap an wf wt nv nc ns kd de fi se tb va bz jF jT := by
  intro d
  induction d with
  | zero =>
    intro v jF jT hv h
    exact br_t (nI_le (a := 8) (by omega) (by omega)) (K jF jT (fun j hj => h j (by omega)))
  | succ d ih =>
    intro v jF jT hv h
    have cv : (nI v).toNatClampNeg = v := nI_clamp (by omega)
    have iv : vp_in (nI v) 8 := vp_in_nI (by omega) (by decide)
    refine br_f (nI_ge (b := 8) (by omega) (by omega)) (And.intro iv (And.intro iv (nm_r (e' := upd jT v (wt v)) (by rw [cv]) (And.intro iv (And.intro iv (nm_r (e' := upd jF v (wf v)) (by rw [cv]) (nm_r (nI_1 v) (ih (v + 1) _ _ (by omega) (fun j hj => ?_)))))))))
    by_cases e : j = v
    · subst e; rw [pk_us, pk_us]; exact ⟨rfl, rfl⟩
    · rw [pk_un e, pk_un e]; exact h j (by omega)
theorem mc_x_weigh {post : SX → Prop} (K : ∀ jF' jT' : Nat → Int32, (∀ j, j < 8 → jT' j = wt j ∧ jF' j = wf j) → post (dr, ct, bu, nd, ad, ap, an, wf, wt, nv, nc, ns, kd, de, fi, se, tb, va, bz, jF', jT')) : wpX_weigh post (dr, ct, bu, nd, ad, ap, an, wf, wt, nv, nc, ns, kd, de, fi, se, tb, va, bz, jF, jT) :=
  ⟨_, mc_x_we K 8 0 jF jT (by omega) (fun j hj => absurd hj (by omega))⟩
theorem mc_x_weighted {post : Int32 → SX → Prop} {u : SX} (hn : n ≤ 14) (H : mc_XS dr n ad ap an wf wt u) (K : ∀ u', mc_XS dr n ad ap an wf wt u' → post (mc_tot wt wf n ap an) u') : wpX_weighted post u := by
  refine mc_XS_el (P := fun u => wpX_weighted post u) ?_ H
  intro bu nd nv nc ns kd de fi se tb va bz jF jT hb
  refine mc_x_weigh (fun jF' jT' hj => mc_x_pa hn hb (fun u' hu => ?_))
  rw [mc_tot_congr hj]
  exact K u' hu
/-! share -/
theorem mc_pw_z {T F : Nat → Int32} {a v : Nat} (k : Nat) (hv : v < k) (h : (if a.testBit v = true then T v else F v) = 0) : mc_pw T F a k = 0 := by
  induction k with
  | zero => omega
  | succ k ih =>
    have e1 : mc_pw T F a (k + 1) = mc_pw T F a k * (if a.testBit k = true then T k else F k) := rfl
    rw [e1]
    by_cases e : v = k
    · subst e; rw [h, Int32.mul_zero]
    · rw [ih (by omega), Int32.zero_mul]
theorem mc_pw_e {T F T' F' : Nat → Int32} {a : Nat} (k : Nat) (h : ∀ j, j < k → (if a.testBit j = true then T j else F j) = (if a.testBit j = true then T' j else F' j)) : mc_pw T F a k = mc_pw T' F' a k := by
  induction k with
  | zero => rfl
  | succ k ih =>
    have e1 : mc_pw T F a (k + 1) = mc_pw T F a k * (if a.testBit k = true then T k else F k) := rfl
    have e2 : mc_pw T' F' a (k + 1) = mc_pw T' F' a k * (if a.testBit k = true then T' k else F' k) := rfl
    rw [e1, e2, ih (fun j hj => h j (by omega)), h k (by omega)]
theorem mc_tot_F {v : Nat} (hv : v < 8) : mc_tot (upd wt v 0) wf n ap an = bx_sum (mc_sh n ap an wf wt v false) 256 := by
  refine mc_bs_congr (fun a ha => ?_)
  unfold mc_sh
  by_cases hb : a.testBit v = true
  · rw [if_neg (show ¬ a.testBit v = false by rw [hb]; decide), mc_pw_z 8 hv (by rw [if_pos hb, pk_us]), ite_self]
  · rw [if_pos (Bool.eq_false_iff.mpr hb)]
    rw [mc_pw_e (T' := wt) (F' := wf) 8 (fun j hj => ?_)]
    by_cases e : j = v
    · rw [e, if_neg hb, if_neg hb]
    · rw [pk_un e]
theorem mc_tot_T {v : Nat} (hv : v < 8) : mc_tot wt (upd wf v 0) n ap an = bx_sum (mc_sh n ap an wf wt v true) 256 := by
  refine mc_bs_congr (fun a ha => ?_)
  unfold mc_sh
  by_cases hb : a.testBit v = true
  · rw [if_pos hb]
    rw [mc_pw_e (T' := wt) (F' := wf) 8 (fun j hj => ?_)]
    by_cases e : j = v
    · rw [e, if_pos hb, if_pos hb]
    · rw [pk_un e]
  · rw [if_neg hb, mc_pw_z 8 hv (by rw [if_neg hb, pk_us]), ite_self]
theorem mc_tot_two : mc_tot wt wf n ap an = bx_sum (mc_sh n ap an wf wt 0 false) 256 + bx_sum (mc_sh n ap an wf wt 0 true) 256 := by
  rw [← mc_bs_add]
  refine mc_bs_congr (fun a ha => ?_)
  unfold mc_sh
  cases hb : a.testBit 0
  · rw [if_pos (show false = false from rfl), if_neg (show ¬ false = true by decide), Int32.add_zero]
  · rw [if_neg (show ¬ true = false by decide), if_pos (show true = true from rfl), Int32.zero_add]
theorem mc_x_share {post : Int32 → SX → Prop} {u : SX} {v : Nat} {b : Bool} (hn : n ≤ 14) (hv : v < 8) (H : mc_XS dr n ad ap an wf wt u) (K : ∀ u', mc_XS dr n ad ap an wf wt u' → post (bx_sum (mc_sh n ap an wf wt v b) 256) u') :
    wpX_share post u (nI v) (if b = true then 1 else 0) := by
  refine mc_XS_el (P := fun u => wpX_share post u (nI v) (if b = true then 1 else 0)) ?_ H
  intro bu nd nv nc ns kd de fi se tb va bz jF jT hb
  have cv : (nI v).toNatClampNeg = v := nI_clamp (by omega)
  have iv : vp_in (nI v) 8 := vp_in_nI hv (by decide)
  refine br_f (nI_pos (by omega)) (br_f (nI_ge (b := 8) (by omega) (by decide)) (br_f (by cases b <;> decide) (br_t (by cases b <;> decide) (mc_x_weigh (fun jF' jT' hj => ?_)))))
  cases b
  · refine br_t rfl (And.intro iv (nm_r (e' := upd jT' v 0) (by rw [cv]) (mc_x_pa hn hb (fun u' hu => ?_))))
    rw [mc_tot_congr (T' := upd wt v 0) (F' := wf), mc_tot_F hv]
    · exact K u' hu
    · intro j hj8
      refine ⟨?_, (hj j hj8).2⟩
      by_cases e : j = v
      · rw [e, pk_us, pk_us]
      · rw [pk_un e, pk_un e]; exact (hj j hj8).1
  · refine br_f mc_10 (And.intro iv (nm_r (e' := upd jF' v 0) (by rw [cv]) (mc_x_pa hn hb (fun u' hu => ?_))))
    rw [mc_tot_congr (T' := wt) (F' := upd wf v 0), mc_tot_T hv]
    · exact K u' hu
    · intro j hj8
      refine ⟨(hj j hj8).1, ?_⟩
      by_cases e : j = v
      · rw [e, pk_us, pk_us]
      · rw [pk_un e, pk_un e]; exact (hj j hj8).2
end
end
section
/-! by the number of true variables: polynomials as functions -/
def mc_DS (_ : Nat) (x y : Nat → Int32) : Nat → Int32 := fun m => y m + (if m = 0 then 0 else x (m - 1))
def mc_ES (b : Bool) : Nat → Int32 := fun m => if m = 0 then mc_E b else 0
def mc_cv (p q : Nat → Int32) : Nat → Int32 := fun m => bx_sum (fun i => p i * q (m - i)) (m + 1)
theorem mc_DS_0 (v : Nat) (x y : Nat → Int32) : mc_DS v x y 0 = y 0 := by show y 0 + (if 0 = 0 then 0 else x (0 - 1)) = y 0; rw [if_pos rfl, Int32.add_zero]
theorem mc_DS_s (v : Nat) (x y : Nat → Int32) (m : Nat) : mc_DS v x y (m + 1) = y (m + 1) + x m := by
  show y (m + 1) + (if m + 1 = 0 then 0 else x (m + 1 - 1)) = _; rw [if_neg (by omega), Nat.add_sub_cancel]
theorem mc_DS_D (u v : Nat) (x y z w : Nat → Int32) : mc_DS u (mc_DS v x y) (mc_DS v z w) = mc_DS v (mc_DS u x z) (mc_DS u y w) := by
  funext m
  cases m with
  | zero => rw [mc_DS_0, mc_DS_0, mc_DS_0, mc_DS_0]
  | succ m =>
    rw [mc_DS_s, mc_DS_s, mc_DS_s, mc_DS_s]
    cases m with
    | zero => rw [mc_DS_0, mc_DS_0]; grind
    | succ m => rw [mc_DS_s, mc_DS_s]; grind
theorem mc_ES_0 (b : Bool) : mc_ES b 0 = mc_E b := if_pos rfl
theorem mc_ES_s (b : Bool) (m : Nat) : mc_ES b (m + 1) = 0 := if_neg (by omega)
theorem mc_ES_cv (p q : Bool) : mc_cv (mc_ES p) (mc_ES q) = mc_ES (p && q) := by
  funext m
  cases m with
  | zero =>
    show (0 : Int32) + mc_ES p 0 * mc_ES q (0 - 0) = _
    rw [Nat.sub_self, mc_ES_0, mc_ES_0, mc_ES_0, mc_E_and, Int32.zero_add]
  | succ m =>
    rw [mc_ES_s]
    refine mc_bs_zero (fun i hi => ?_)
    cases i with
    | zero => rw [Nat.sub_zero, mc_ES_s, Int32.mul_zero]
    | succ i => rw [mc_ES_s, Int32.zero_mul]
theorem mc_cv_l (v : Nat) (x y z : Nat → Int32) : mc_cv (mc_DS v x y) z = mc_DS v (mc_cv x z) (mc_cv y z) := by
  funext m
  have e : ∀ i, mc_DS v x y i * z (m - i) = y i * z (m - i) + (if i = 0 then 0 else x (i - 1)) * z (m - i) := fun i => by unfold mc_DS; grind
  have e1 : mc_cv (mc_DS v x y) z m = mc_cv y z m + bx_sum (fun i => (if i = 0 then 0 else x (i - 1)) * z (m - i)) (m + 1) := by
    unfold mc_cv
    rw [← mc_bs_add]
    exact mc_bs_congr (fun i _ => e i)
  rw [e1]
  cases m with
  | zero =>
    rw [mc_DS_0]
    show mc_cv y z 0 + (0 + (if 0 = 0 then 0 else x (0 - 1)) * z (0 - 0)) = _
    rw [if_pos rfl, Int32.zero_mul, Int32.add_zero, Int32.add_zero]
  | succ m =>
    rw [mc_DS_s]
    congr 1
    rw [Nat.add_comm (m + 1) 1, mc_bs_split]
    have e0 : bx_sum (fun i => (if i = 0 then 0 else x (i - 1)) * z (m + 1 - i)) 1 = 0 := by
      show (0 : Int32) + (if 0 = 0 then 0 else x (0 - 1)) * z (m + 1 - 0) = 0
      rw [if_pos rfl, Int32.zero_mul, Int32.add_zero]
    rw [e0, Int32.zero_add]
    refine mc_bs_congr (fun i hi => ?_)
    rw [if_neg (by omega), show 1 + i - 1 = i by omega, show m + 1 - (1 + i) = m - i by omega]
theorem mc_cv_r (v : Nat) (x y z : Nat → Int32) : mc_cv x (mc_DS v y z) = mc_DS v (mc_cv x y) (mc_cv x z) := by
  funext m
  have e : ∀ i, x i * mc_DS v y z (m - i) = x i * z (m - i) + x i * (if m - i = 0 then 0 else y (m - i - 1)) := fun i => by unfold mc_DS; grind
  have e1 : mc_cv x (mc_DS v y z) m = mc_cv x z m + bx_sum (fun i => x i * (if m - i = 0 then 0 else y (m - i - 1))) (m + 1) := by
    unfold mc_cv
    rw [← mc_bs_add]
    exact mc_bs_congr (fun i _ => e i)
  rw [e1]
  cases m with
  | zero =>
    rw [mc_DS_0]
    show mc_cv x z 0 + (0 + x 0 * (if 0 - 0 = 0 then 0 else y (0 - 0 - 1))) = _
    rw [if_pos (by omega), Int32.mul_zero, Int32.add_zero, Int32.add_zero]
  | succ m =>
    rw [mc_DS_s]
    congr 1
    show bx_sum (fun i => x i * (if m + 1 - i = 0 then 0 else y (m + 1 - i - 1))) (m + 1) + x (m + 1) * (if m + 1 - (m + 1) = 0 then 0 else y (m + 1 - (m + 1) - 1)) = bx_sum (fun i => x i * y (m - i)) (m + 1)
    rw [if_pos (by omega), Int32.mul_zero, Int32.add_zero]
    refine mc_bs_congr (fun i hi => ?_)
    rw [if_neg (by omega), show m + 1 - i - 1 = m - i by omega]
theorem mc_DS_z (v : Nat) : mc_DS v (mc_ES false) (mc_ES false) = mc_ES false := by
  have e : ∀ m, mc_ES false m = 0 := fun m => by
    cases m with
    | zero => rfl
    | succ m => exact mc_ES_s _ _
  funext m
  cases m with
  | zero => rw [mc_DS_0]
  | succ m => rw [mc_DS_s, e, e]; rfl
/-- without clauses: one row after the other -/
def mc_it : Nat → Nat → Int32
  | 0 => mc_ES true
  | j + 1 => mc_DS 0 (mc_it j) (mc_it j)
theorem mc_fr_it (V : Nat → Bool) (k : Nat) : mc_fr mc_DS (mc_ES true) V k = mc_it (mc_cn V k) := by
  induction k with
  | zero => rfl
  | succ k ih =>
    show (if V k = true then mc_DS k (mc_fr mc_DS (mc_ES true) V k) (mc_fr mc_DS (mc_ES true) V k) else mc_fr mc_DS (mc_ES true) V k) = _
    rw [ih]
    by_cases h : V k = true
    · rw [if_pos h, mc_cn_t h]; rfl
    · rw [if_neg h, mc_cn_f h]
noncomputable def mc_sw (n : Nat) (ap an : Nat → Int32) (V C : Int32) : Nat → Int32 := mc_val mc_DS mc_ES n ap an V C
/-! the root -/
def mc_ho (a : Nat → Bool) : Nat → Nat → Nat
  | _, 0 => 0
  | k, d + 1 => (if a k = true then 1 else 0) + mc_ho a (k + 1) d
theorem mc_ho_s (a : Nat → Bool) (k d : Nat) : mc_ho a k (d + 1) = (if a k = true then 1 else 0) + mc_ho a (k + 1) d := rfl
theorem mc_ho_congr {a b : Nat → Bool} (d : Nat) : ∀ k, (∀ j, k ≤ j → a j = b j) → mc_ho a k d = mc_ho b k d := by
  induction d with
  | zero => intro k _; rfl
  | succ d ih =>
    intro k h
    rw [mc_ho_s, mc_ho_s, h k (Nat.le_refl _), ih (k + 1) (fun j hj => h j (by omega))]
theorem mc_ho_cn (p : Nat → Bool) (d : Nat) : ∀ k, mc_cn p k + mc_ho p k d = mc_cn p (k + d) := by
  induction d with
  | zero => intro k; rfl
  | succ d ih =>
    intro k
    have e := ih (k + 1)
    have e2 : mc_cn p (k + 1) = mc_cn p k + (if p k = true then 1 else 0) := rfl
    rw [mc_ho_s, show k + (d + 1) = k + 1 + d by omega, ← e, e2]
    omega
theorem mc_rs (f : (Nat → Bool) → Bool) (c : Nat) : ∀ k d q a, k + d = 8 → mc_up k q a →
    mc_T (fun x => if mc_ho (fun j => x.testBit j) 0 8 = c then mc_E (f (fun j => x.testBit j)) else 0) k q = if mc_ho a k d ≤ c then mc_sv mc_DS mc_ES (bt 255) f k a (c - mc_ho a k d) else 0 := by
  intro k
  induction k with
  | zero =>
    intro d q a hd hq
    obtain rfl : d = 8 := by omega
    rw [mc_up_0 hq]
    show (if mc_ho (fun j => q.testBit j) 0 8 = c then mc_E (f (fun j => q.testBit j)) else 0) = if mc_ho (fun j => q.testBit j) 0 8 ≤ c then mc_ES (f (fun j => q.testBit j)) (c - mc_ho (fun j => q.testBit j) 0 8) else 0
    generalize mc_ho (fun j => q.testBit j) 0 8 = h
    by_cases h1 : h = c
    · rw [if_pos h1, if_pos (by omega), h1, Nat.sub_self, mc_ES_0]
    · rw [if_neg h1]
      by_cases h2 : h ≤ c
      · rw [if_pos h2]; exact (if_neg (by omega)).symm
      · rw [if_neg h2]
  | succ k ih =>
    intro d q a hd hq
    have hk : bt 255 k = true := by rw [b_255]; exact decide_eq_true (by omega)
    have i1 := ih (d + 1) _ _ (by omega) (mc_up_set hq true)
    have i0 := ih (d + 1) _ _ (by omega) (mc_up_set hq false)
    rw [if_pos rfl, mc_ho_s, mc_set_s, if_pos rfl, mc_ho_congr (b := a) d (k + 1) (fun j hj => mc_set_n (by omega))] at i1
    rw [if_neg (show ¬ false = true by decide), mc_ho_s, mc_set_s, if_neg (show ¬ false = true by decide), mc_ho_congr (b := a) d (k + 1) (fun j hj => mc_set_n (by omega)), Nat.zero_add] at i0
    rw [mc_sv_t hk]
    show mc_T _ k (2 * q + 1) + mc_T _ k (2 * q) = _
    rw [i1, i0]
    generalize mc_ho a (k + 1) d = h
    by_cases h1 : h ≤ c
    · rw [if_pos h1, if_pos h1]
      by_cases h2 : h = c
      · rw [if_neg (by omega), h2, Nat.sub_self, mc_DS_0, Int32.zero_add]
      · obtain ⟨m, hm⟩ : ∃ m, c = h + (m + 1) := ⟨c - h - 1, by omega⟩
        rw [if_pos (by omega), hm, show h + (m + 1) - h = m + 1 by omega, show h + (m + 1) - (1 + h) = m by omega, mc_DS_s, Int32.add_comm]
    · rw [if_neg h1, if_neg h1, if_neg (by omega), Int32.add_zero]
theorem mc_ho_pop {x : Nat} (hx : x < 256) : mc_ho (fun j => x.testBit j) 0 8 = mc_pop (nI x) := by
  have e := mc_ho_cn (fun j => x.testBit j) 8 0
  have e0 : mc_cn (fun j => x.testBit j) 0 = 0 := rfl
  rw [e0, Nat.zero_add, Nat.zero_add] at e
  rw [e]
  exact mc_cn_congr (fun i _ => (mc_bn (by omega) i).symm)
theorem mc_sroot {n : Nat} (hn : n ≤ 14) (ap an : Nat → Int32) {k : Nat} (hk : k < 9) : mc_sw n ap an 255 (((1 : Int32) <<< (nI n &&& 31)) - 1) k = nI (mc_cn (mc_sz n ap an (nI k)) 256) := by
  have h := mc_rs (mc_m n ap an 255 (((1 : Int32) <<< (nI n &&& 31)) - 1)) k 8 0 0 (fun _ => false) (by omega) (fun j hj => (Nat.zero_testBit _).symm)
  have e : mc_ho (fun _ => false) 8 0 = 0 := rfl
  rw [e, if_pos (Nat.zero_le _), Nat.sub_zero, mc_T_256] at h
  unfold mc_sw mc_val
  rw [← h, ← mc_bs_ind]
  refine mc_bs_congr (fun x hx => ?_)
  have hp := mc_pop_le (nI x)
  rw [mc_root_m hn, mc_ho_pop hx]
  unfold mc_sz mc_E
  by_cases h1 : mc_pop (nI x) = k
  · rw [if_pos h1, h1, decide_eq_true rfl, Bool.true_and]
  · have h2 : ¬ nI (mc_pop (nI x)) = nI k := fun z => h1 ((nI_eq (by omega) (by omega)).mp z)
    rw [if_neg h1, decide_eq_false h2, Bool.false_and, if_neg (by decide)]
end
section
/-! the component: sizes -/
def mc_row (b0 bz : Nat → Int32) (m : Nat) (g : Nat → Int32) : Prop := (∀ k, k < 9 → bz (m * 9 + k) = g k) ∧ (∀ j, (j < m * 9 ∨ m * 9 + 9 ≤ j) → bz j = b0 j)
theorem mc_row_c {b0 bz g g' : Nat → Int32} {m : Nat} (h : mc_row b0 bz m g) (e : ∀ k, k < 9 → g' k = g k) : mc_row b0 bz m g' := ⟨fun k hk => (h.1 k hk).trans (e k hk).symm, h.2⟩
theorem mc_row_u {b0 bz g g' : Nat → Int32} {m k : Nat} {x : Int32} (h : mc_row b0 bz m g) (hk : k < 9) (h1 : g' k = x) (h2 : ∀ j, j < 9 → j ≠ k → g' j = g j) : mc_row b0 (upd bz (m * 9 + k) x) m g' := by
  refine ⟨fun j hj => ?_, fun j hj => ?_⟩
  · by_cases e : j = k
    · rw [e, pk_us, h1]
    · rw [pk_un (by omega), h2 j hj e]; exact h.1 j hj
  · rw [pk_un (by omega)]; exact h.2 j hj
theorem mc_row_o {b0 bz g : Nat → Int32} {m f k : Nat} (h : mc_row b0 bz m g) (hf : f ≠ m) (hk : k < 9) : bz (f * 9 + k) = b0 (f * 9 + k) := h.2 _ (by omega)
def mc_rw (b0 : Nat → Int32) (f : Nat) : Nat → Int32 := fun k => b0 (f * 9 + k)
theorem mc_rw_e (b0 : Nat → Int32) (f k : Nat) : mc_rw b0 f k = b0 (f * 9 + k) := rfl
def mc_g1 (i k j : Nat) : Int32 := if k < j then mc_it (i + 1) j else mc_it i j
theorem mc_g1_a {i k j : Nat} (h : k < j) : mc_g1 i k j = mc_it (i + 1) j := if_pos h
theorem mc_g1_b {i k j : Nat} (h : ¬ k < j) : mc_g1 i k j = mc_it i j := if_neg h
/-- the product up to its row i -/
def mc_c0 (p q : Nat → Int32) (i k : Nat) : Int32 := bx_sum (fun i' => if i' ≤ k then p i' * q (k - i') else 0) i
theorem mc_c0_s (p q : Nat → Int32) (i k : Nat) : mc_c0 p q (i + 1) k = mc_c0 p q i k + (if i ≤ k then p i * q (k - i) else 0) := rfl
def mc_g2 (p q : Nat → Int32) (i j k : Nat) : Int32 := mc_c0 p q i k + (if i ≤ k ∧ k < i + j then p i * q (k - i) else 0)
theorem mc_g2_a {p q : Nat → Int32} {i j k : Nat} (h : i ≤ k ∧ k < i + j) : mc_g2 p q i j k = mc_c0 p q i k + p i * q (k - i) := by unfold mc_g2; rw [if_pos h]
theorem mc_g2_b {p q : Nat → Int32} {i j k : Nat} (h : ¬ (i ≤ k ∧ k < i + j)) : mc_g2 p q i j k = mc_c0 p q i k := by unfold mc_g2; rw [if_neg h, Int32.add_zero]
def mc_g3 (p q : Nat → Int32) (k j : Nat) : Int32 := if j < k then mc_DS 0 p q j else 0
theorem mc_g3_a {p q : Nat → Int32} {k j : Nat} (h : j < k) : mc_g3 p q k j = mc_DS 0 p q j := if_pos h
theorem mc_g3_b {p q : Nat → Int32} {k j : Nat} (h : ¬ j < k) : mc_g3 p q k j = 0 := if_neg h
theorem mc_i9 (m k : Nat) : (nI m * 9) + nI k = nI (m * 9 + k) := by rw [show (9 : Int32) = nI 9 from rfl, pk_mul, nI_add]
section
variable {dr ct bu nd : Int32} {ad ap an wf wt nv nc ns kd de fi se tb va bz jF jT : Nat → Int32} {n N m : Nat} {b0 : Nat → Int32}
theorem mc_x_s67 {post : SX → Prop} {J : Int32 → (Nat → Int32) → (Nat → Int32) → (Nat → Int32) → (Nat → Int32) → (Nat → Int32) → (Nat → Int32) → (Nat → Int32) → (Nat → Int32) → (Nat → Int32) → (Nat → Int32) → (Nat → Int32) → (Nat → Int32) → (Nat → Int32) → (Nat → Int32) → (Nat → Int32) → (Nat → Int32) → (Nat → Int32) → Prop} {x2 : Int32} {i : Nat} (hm : m < 512) (K : ∀ bz' : Nat → Int32, mc_row b0 bz' m (mc_it (i + 1)) → J (nI (i + 1)) ad ap an wf wt nv nc ns kd de fi se tb va bz' jF jT) :
    ∀ (k : Nat) (bz : Nat → Int32), k ≤ 8 → mc_row b0 bz m (mc_g1 i k) → wX_sizes_67 post J (nI m) x2 (nI i) dr ct bu nd (k + 1) (nI k) ad ap an wf wt nv nc ns kd de fi se tb va bz jF jT := by
  intro k
  induction k with
  | zero =>
    intro bz hk h
    refine br_t (Int32.le_refl _) (nm_r (nI_1 i) (K bz (mc_row_c h (fun j hj => ?_))))
    by_cases e : 0 < j
    · rw [mc_g1_a e]
    · obtain rfl : j = 0 := by omega
      rw [mc_g1_b e]
      exact mc_DS_0 0 _ _
  | succ k ih =>
    intro bz hk h
    have e1 : (nI m * 9) + nI (k + 1) = nI (m * 9 + (k + 1)) := mc_i9 _ _
    have e2 : ((nI m * 9) + nI (k + 1)) - 1 = nI (m * 9 + k) := by rw [e1]; exact nI_pred _
    have i1 : vp_in (nI (m * 9 + (k + 1))) 4608 := vp_in_nI (by omega) (by decide)
    have i2 : vp_in (nI (m * 9 + k)) 4608 := vp_in_nI (by omega) (by decide)
    refine br_f (nI_nle (by omega) (by omega)) ?_
    rw [e2, e1, nI_clamp (show m * 9 + (k + 1) < 2 ^ 31 by omega), nI_clamp (show m * 9 + k < 2 ^ 31 by omega)]
    refine And.intro i1 (And.intro i2 (And.intro i1 (nm_e (nm_r (pk_m1 k) (ih _ (by omega) (mc_row_u h (by omega) ?_ ?_))))))
    · rw [h.1 (k + 1) (by omega), h.1 k (by omega), mc_g1_a (show k < k + 1 by omega), mc_g1_b (show ¬ k + 1 < k + 1 by omega), mc_g1_b (show ¬ k + 1 < k by omega)]
      exact mc_DS_s 0 _ _ _
    · intro j hj hne
      by_cases e : k < j
      · rw [mc_g1_a e, mc_g1_a (show k + 1 < j by omega)]
      · rw [mc_g1_b e, mc_g1_b (show ¬ k + 1 < j by omega)]
theorem mc_x_s58 {post : SX → Prop} {r : Nat} (hm : m < 512) (hr : r < 9) (K : ∀ bz' : Nat → Int32, mc_row b0 bz' m (mc_it r) → post (dr, ct, bu, nd, ad, ap, an, wf, wt, nv, nc, ns, kd, de, fi, se, tb, va, bz', jF, jT)) :
    ∀ (d i : Nat) (bz : Nat → Int32), i + d = r → mc_row b0 bz m (mc_it i) → wX_sizes_58 post (nI m) (nI r) dr ct bu nd (d + 1) (nI i) ad ap an wf wt nv nc ns kd de fi se tb va bz jF jT := by
  intro d
  induction d with
  | zero =>
    intro i bz hi h
    obtain rfl : i = r := by omega
    exact br_t (nI_le (by omega) (by omega)) (K bz h)
  | succ d ih =>
    intro i bz hi h
    refine br_f (nI_ge (by omega) (by omega)) ⟨_, mc_x_s67 hm (fun bz' h' => ih (i + 1) bz' (by omega) h') 8 bz (by omega) (mc_row_c h (fun j hj => ?_))⟩
    rw [mc_g1_b (show ¬ 8 < j by omega)]
theorem mc_c0_9 {p q : Nat → Int32} {k : Nat} (hk : k < 9) : mc_c0 p q 9 k = mc_cv p q k := by
  unfold mc_c0 mc_cv
  rw [show 9 = (k + 1) + (8 - k) by omega, mc_bs_split]
  have e : bx_sum (fun i => if k + 1 + i ≤ k then p (k + 1 + i) * q (k - (k + 1 + i)) else 0) (8 - k) = 0 := mc_bs_zero (fun i _ => if_neg (by omega))
  rw [e, Int32.add_zero]
  exact mc_bs_congr (fun i hi => if_pos (by omega))
theorem mc_cv_congr {p q p' q' : Nat → Int32} {k : Nat} (h : ∀ i, i ≤ k → p i = p' i ∧ q i = q' i) : mc_cv p q k = mc_cv p' q' k :=
  mc_bs_congr (fun i hi => by rw [(h i (by omega)).1, (h (k - i) (by omega)).2])
theorem mc_x_s146 {post : SX → Prop} {J : Int32 → (Nat → Int32) → (Nat → Int32) → (Nat → Int32) → (Nat → Int32) → (Nat → Int32) → (Nat → Int32) → (Nat → Int32) → (Nat → Int32) → (Nat → Int32) → (Nat → Int32) → (Nat → Int32) → (Nat → Int32) → (Nat → Int32) → (Nat → Int32) → (Nat → Int32) → (Nat → Int32) → (Nat → Int32) → Prop} {f s i : Nat} (hm : m < 512) (hf : f < 512) (hs : s < 512) (hfm : f ≠ m) (hsm : s ≠ m) (ef : fi m = nI f) (es : se m = nI s) (hi : i < 9)
    (K : ∀ bz' : Nat → Int32, mc_row b0 bz' m (mc_c0 (mc_rw b0 f) (mc_rw b0 s) (i + 1)) → J (nI (i + 1)) ad ap an wf wt nv nc ns kd de fi se tb va bz' jF jT) :
    ∀ (d j : Nat) (bz : Nat → Int32), i + j + d = 9 → mc_row b0 bz m (mc_g2 (mc_rw b0 f) (mc_rw b0 s) i j) →
      wX_sizes_146 post J (nI m) (nI i) dr ct bu nd (d + 1) (nI j) ad ap an wf wt nv nc ns kd de fi se tb va bz jF jT := by
  intro d
  have cm : (nI m).toNatClampNeg = m := nI_clamp (by omega)
  have im : vp_in (nI m) 512 := vp_in_nI hm (by decide)
  induction d with
  | zero =>
    intro j bz hd h
    refine br_t ?_ (nm_r (nI_1 i) (K bz (mc_row_c h (fun k hk => ?_))))
    · rw [nI_add]; exact nI_lt (a := 8) (by omega) (by omega)
    · rw [mc_c0_s]
      by_cases e : i ≤ k
      · rw [if_pos e, mc_g2_a ⟨e, by omega⟩]
      · rw [if_neg e, mc_g2_b (fun z => e z.1), Int32.add_zero]
  | succ d ih =>
    intro j bz hd h
    have e1 : ((nI m * 9) + nI i) + nI j = nI (m * 9 + (i + j)) := by rw [mc_i9, nI_add, Nat.add_assoc]
    have e2 : (fi m * 9) + nI i = nI (f * 9 + i) := by rw [ef]; exact mc_i9 _ _
    have e3 : (se m * 9) + nI j = nI (s * 9 + j) := by rw [es]; exact mc_i9 _ _
    have i1 : vp_in (nI (m * 9 + (i + j))) 4608 := vp_in_nI (by omega) (by decide)
    have i2 : vp_in (nI (f * 9 + i)) 4608 := vp_in_nI (by omega) (by decide)
    have i3 : vp_in (nI (s * 9 + j)) 4608 := vp_in_nI (by omega) (by decide)
    refine br_f ?_ ?_
    · rw [nI_add]; exact nI_nlt (a := 8) (by omega) (by decide)
    · rw [e1, cm, e2, e3, nI_clamp (show m * 9 + (i + j) < 2 ^ 31 by omega), nI_clamp (show f * 9 + i < 2 ^ 31 by omega), nI_clamp (show s * 9 + j < 2 ^ 31 by omega)]
      refine And.intro im (And.intro i2 (And.intro im (And.intro i3 (nm_r (e' := mc_rw b0 f i * mc_rw b0 s j) ?_ (And.intro i1 (And.intro i1 (nm_e (nm_r (nI_1 j) (ih (j + 1) _ (by omega) (mc_row_u h (by omega) ?_ ?_))))))))))
      · rw [mc_row_o h hfm (by omega), mc_row_o h hsm (by omega)]; rfl
      · rw [h.1 (i + j) (by omega), mc_g2_a ⟨by omega, by omega⟩, mc_g2_b (by omega), Nat.add_sub_cancel_left]
      · intro k hk hne
        by_cases e : i ≤ k ∧ k < i + j
        · rw [mc_g2_a e, mc_g2_a ⟨e.1, by omega⟩]
        · rw [mc_g2_b e, mc_g2_b (by omega)]
theorem mc_x_s138 {post : SX → Prop} {f s : Nat} (hm : m < 512) (hf : f < 512) (hs : s < 512) (hfm : f ≠ m) (hsm : s ≠ m) (ef : fi m = nI f) (es : se m = nI s)
    (K : ∀ bz' : Nat → Int32, mc_row b0 bz' m (mc_c0 (mc_rw b0 f) (mc_rw b0 s) 9) → post (dr, ct, bu, nd, ad, ap, an, wf, wt, nv, nc, ns, kd, de, fi, se, tb, va, bz', jF, jT)) :
    ∀ (d i : Nat) (bz : Nat → Int32), i + d = 9 → mc_row b0 bz m (mc_c0 (mc_rw b0 f) (mc_rw b0 s) i) → wX_sizes_138 post (nI m) dr ct bu nd (d + 1) (nI i) ad ap an wf wt nv nc ns kd de fi se tb va bz jF jT := by
  intro d
  induction d with
  | zero =>
    intro i bz hi h
    obtain rfl : i = 9 := by omega
    exact br_t (nI_lt (a := 8) (b := 9) (by omega) (by decide)) (K bz h)
  | succ d ih =>
    intro i bz hi h
    refine br_f (nI_nlt (a := 8) (by omega) (by decide)) ⟨_, mc_x_s146 hm hf hs hfm hsm ef es (by omega) (fun bz' h' => ih (i + 1) bz' (by omega) h') (9 - i) 0 bz (by omega) (mc_row_c h (fun k hk => ?_))⟩
    rw [mc_g2_b (by omega)]
theorem mc_x_s277 {post : SX → Prop} {J : Int32 → (Nat → Int32) → (Nat → Int32) → (Nat → Int32) → (Nat → Int32) → (Nat → Int32) → (Nat → Int32) → (Nat → Int32) → (Nat → Int32) → (Nat → Int32) → (Nat → Int32) → (Nat → Int32) → (Nat → Int32) → (Nat → Int32) → (Nat → Int32) → (Nat → Int32) → (Nat → Int32) → (Nat → Int32) → Prop} {s k : Nat} {z0 : Int32} (hm : m < 512) (hs : s < 512) (es : se m = nI s) (hk : k < 9)
    (K : J (nI (k + 1)) ad ap an wf wt nv nc ns kd de fi se tb va (upd bz (m * 9 + k) (bz (s * 9 + k) + z0)) jF jT) : wX_sizes_277 post J (nI m) (nI k) z0 dr ct bu nd ad ap an wf wt nv nc ns kd de fi se tb va bz jF jT := by
  have cm : (nI m).toNatClampNeg = m := nI_clamp (by omega)
  have im : vp_in (nI m) 512 := vp_in_nI hm (by decide)
  have e1 : (nI m * 9) + nI k = nI (m * 9 + k) := mc_i9 _ _
  have e3 : (se m * 9) + nI k = nI (s * 9 + k) := by rw [es]; exact mc_i9 _ _
  have i1 : vp_in (nI (m * 9 + k)) 4608 := vp_in_nI (by omega) (by decide)
  have i3 : vp_in (nI (s * 9 + k)) 4608 := vp_in_nI (by omega) (by decide)
  unfold wX_sizes_277
  rw [e1, cm, e3, nI_clamp (show m * 9 + k < 2 ^ 31 by omega), nI_clamp (show s * 9 + k < 2 ^ 31 by omega)]
  exact And.intro im (And.intro i3 (And.intro i1 (nm_e (nm_r (nI_1 k) K))))
theorem mc_x_s245 {post : SX → Prop} {f s : Nat} (hm : m < 512) (hf : f < 512) (hs : s < 512) (hfm : f ≠ m) (hsm : s ≠ m) (ef : fi m = nI f) (es : se m = nI s)
    (K : ∀ bz' : Nat → Int32, mc_row b0 bz' m (mc_DS 0 (mc_rw b0 f) (mc_rw b0 s)) → post (dr, ct, bu, nd, ad, ap, an, wf, wt, nv, nc, ns, kd, de, fi, se, tb, va, bz', jF, jT)) :
    ∀ (d k : Nat) (bz : Nat → Int32), k + d = 9 → mc_row b0 bz m (mc_g3 (mc_rw b0 f) (mc_rw b0 s) k) → wX_sizes_245 post (nI m) dr ct bu nd (d + 1) (nI k) ad ap an wf wt nv nc ns kd de fi se tb va bz jF jT := by
  intro d
  have cm : (nI m).toNatClampNeg = m := nI_clamp (by omega)
  have im : vp_in (nI m) 512 := vp_in_nI hm (by decide)
  induction d with
  | zero =>
    intro k bz hk h
    exact br_t (nI_lt (a := 8) (by omega) (by omega)) (K bz (mc_row_c h (fun j hj => (mc_g3_a (by omega)).symm)))
  | succ d ih =>
    intro k bz hk h
    have next : ∀ z0, z0 = (if k = 0 then 0 else mc_rw b0 f (k - 1)) → wX_sizes_277 post (wX_sizes_245 post (nI m) dr ct bu nd (d + 1)) (nI m) (nI k) z0 dr ct bu nd ad ap an wf wt nv nc ns kd de fi se tb va bz jF jT := by
      intro z0 hz
      refine mc_x_s277 hm hs es (by omega) (ih (k + 1) _ (by omega) (mc_row_u h (by omega) ?_ ?_))
      · rw [mc_g3_a (by omega), mc_row_o h hsm (by omega), hz]; rfl
      · intro j hj hne
        by_cases e : j < k
        · rw [mc_g3_a e, mc_g3_a (by omega)]
        · rw [mc_g3_b e, mc_g3_b (by omega)]
    refine br_f (nI_nlt (a := 8) (by omega) (by decide)) ?_
    cases k with
    | zero => exact br_t (Int32.le_refl _) (next 0 (if_pos rfl).symm)
    | succ k =>
      refine br_f (nI_nle (by omega) (by omega)) (And.intro im ?_)
      have e2 : ((fi m * 9) + nI (k + 1)) - 1 = nI (f * 9 + k) := by rw [ef, mc_i9]; exact nI_pred _
      rw [cm, e2, nI_clamp (show f * 9 + k < 2 ^ 31 by omega)]
      refine And.intro (vp_in_nI (by omega) (by decide)) (next _ ?_)
      rw [if_neg (show ¬ k + 1 = 0 by omega), Nat.add_sub_cancel, mc_row_o h hfm (by omega)]; rfl
theorem mc_x_s2 {post : SX → Prop} (hm : m < N) (hN : N ≤ 511) (hNd : mc_Nd n ap an nv nc kd de fi se N m) (hval : ∀ f, f < N → mc_pop (nv f) < mc_pop (nv m) → ∀ k, k < 9 → b0 (f * 9 + k) = mc_sw n ap an (nv f) (nc f) k)
    (K : ∀ bz' : Nat → Int32, mc_row b0 bz' m (mc_sw n ap an (nv m) (nc m)) → post (dr, ct, bu, nd, ad, ap, an, wf, wt, nv, nc, ns, kd, de, fi, se, tb, va, bz', jF, jT)) :
    ∀ (d k : Nat) (bz : Nat → Int32), k + d = 9 → (∀ j, j < k → bz (m * 9 + j) = 0) → (∀ j, (j < m * 9 ∨ m * 9 + 9 ≤ j) → bz j = b0 j) → wX_sizes_2 post (nI m) dr ct bu nd (d + 1) (nI k) ad ap an wf wt nv nc ns kd de fi se tb va bz jF jT := by
  intro d
  have cm : (nI m).toNatClampNeg = m := nI_clamp (by omega)
  have im : vp_in (nI m) 512 := vp_in_nI (by omega) (by decide)
  induction d with
  | zero =>
    intro k bz hk h0 ho
    have hr : mc_row b0 bz m (fun _ => 0) := ⟨fun j hj => h0 j (by omega), ho⟩
    refine br_t (nI_lt (a := 8) (by omega) (by omega)) (And.intro im ?_)
    rw [cm]
    rcases hNd with ⟨k1, h⟩ | ⟨k0, h⟩ | ⟨k2, f, s, hf, hs, ef, es, p1, p2, h1, h2, h3⟩ | ⟨k3, v, f, s, hv, hf, hs, ed, ef, es, p1, p2, hb, h1, h2, hT, hF⟩
    · have e : ∀ k, mc_sw n ap an (nv m) (nc m) k = 0 := by
        intro k
        unfold mc_sw
        rw [mc_val_const h, mc_fr_z mc_DS_z]
        cases k with
        | zero => rfl
        | succ k => exact mc_ES_s _ _
      exact br_f (by rw [k1]; decide) (And.intro im (br_f (by rw [k1]; decide) (And.intro im (br_f (by rw [k1]; decide) (K bz (mc_row_c hr (fun k _ => e k)))))))
    · have e : mc_sw n ap an (nv m) (nc m) = mc_it (mc_pop (nv m)) := by
        unfold mc_sw
        rw [mc_val_const h, mc_fr_it]
        rfl
      rw [e] at K
      have hp := mc_pop_le (nv m)
      have e9 : nI m * 9 = nI (m * 9 + 0) := by rw [show (9 : Int32) = nI 9 from rfl, pk_mul]; rfl
      refine br_t k0 ?_
      rw [e9, nI_clamp (show m * 9 + 0 < 2 ^ 31 by omega)]
      refine And.intro (vp_in_nI (by omega) (by decide)) (nm_e (And.intro im (mc_x_sizeOf ⟨_, mc_x_s58 (by omega) (by omega) K (mc_pop (nv m)) 0 _ (by omega) (mc_row_u hr (by omega) rfl (fun j hj hne => ?_))⟩)))
      show mc_ES true j = 0
      cases j with
      | zero => exact absurd rfl hne
      | succ j => exact mc_ES_s _ _
    · have hfm : f ≠ m := fun z => by rw [z] at p1; omega
      have hsm : s ≠ m := fun z => by rw [z] at p2; omega
      refine br_f (by rw [k2]; decide) (And.intro im (br_t k2 ⟨_, mc_x_s138 (b0 := b0) (by omega) (by omega) (by omega) hfm hsm ef es (fun bz' h' => K bz' (mc_row_c h' (fun k hk => ?_))) 9 0 bz (by omega) (mc_row_c hr (fun k hk => rfl))⟩))
      rw [mc_c0_9 hk]
      have e : mc_sw n ap an (nv m) (nc m) = mc_cv (mc_sw n ap an (nv f) (nc f)) (mc_sw n ap an (nv s) (nc s)) :=
        mc_val_two (B := mc_cv) mc_ES_cv mc_cv_l mc_cv_r h1 h2 h3
      rw [e]
      exact mc_cv_congr (fun i hi => ⟨(hval f hf p1 i (by omega)).symm, (hval s hs p2 i (by omega)).symm⟩)
    · have hfm : f ≠ m := fun z => by rw [z] at p1; omega
      have hsm : s ≠ m := fun z => by rw [z] at p2; omega
      refine br_f (by rw [k3]; decide) (And.intro im (br_f (by rw [k3]; decide) (And.intro im (br_t k3 ⟨_, mc_x_s245 (b0 := b0) (by omega) (by omega) (by omega) hfm hsm ef es (fun bz' h' => K bz' (mc_row_c h' (fun k hk => ?_))) 9 0 bz (by omega) (mc_row_c hr (fun k hk => mc_g3_b (by omega)))⟩))))
      have e : mc_sw n ap an (nv m) (nc m) = mc_DS v (mc_sw n ap an (nv f) (nc f)) (mc_sw n ap an (nv s) (nc s)) :=
        mc_val_dec mc_DS_D hv hb h1 h2 hT hF
      rw [e]
      cases k with
      | zero => rw [mc_DS_0, mc_DS_0]; exact (hval s hs p2 0 hk).symm
      | succ k => rw [mc_DS_s, mc_DS_s, mc_rw_e, mc_rw_e, hval s hs p2 (k + 1) hk, hval f hf p1 k (by omega)]
  | succ d ih =>
    intro k bz hk h0 ho
    refine br_f (nI_nlt (a := 8) (by omega) (by decide)) ?_
    rw [mc_i9, nI_clamp (show m * 9 + k < 2 ^ 31 by omega)]
    refine And.intro (vp_in_nI (by omega) (by decide)) (nm_e (nm_r (nI_1 k) (ih (k + 1) _ (by omega) (fun j hj => ?_) (fun j hj => ?_))))
    · by_cases e : j = k
      · rw [e, pk_us]
      · rw [pk_un (by omega)]; exact h0 j (by omega)
    · rw [pk_un (by omega)]; exact ho j hj
theorem mc_x_sizes {post : SX → Prop} (hm : m < N) (hN : N ≤ 511) (hNd : mc_Nd n ap an nv nc kd de fi se N m) (hval : ∀ f, f < N → mc_pop (nv f) < mc_pop (nv m) → ∀ k, k < 9 → bz (f * 9 + k) = mc_sw n ap an (nv f) (nc f) k)
    (K : ∀ bz' : Nat → Int32, mc_row bz bz' m (mc_sw n ap an (nv m) (nc m)) → post (dr, ct, bu, nd, ad, ap, an, wf, wt, nv, nc, ns, kd, de, fi, se, tb, va, bz', jF, jT)) : wpX_sizes post (dr, ct, bu, nd, ad, ap, an, wf, wt, nv, nc, ns, kd, de, fi, se, tb, va, bz, jF, jT) (nI m) :=
  ⟨_, mc_x_s2 hm hN hNd hval K 9 0 bz (by omega) (fun j hj => absurd hj (by omega)) (fun _ _ => rfl)⟩
def mc_SI (n : Nat) (ap an nv nc : Nat → Int32) (N s m : Nat) (bz : Nat → Int32) : Prop :=
  ∀ i, i < N → (mc_pop (nv i) < s ∨ (mc_pop (nv i) = s ∧ i < m)) → ∀ k, k < 9 → bz (i * 9 + k) = mc_sw n ap an (nv i) (nc i) k
theorem mc_x_q14 {post : SX → Prop} {J : Int32 → Int32 → Int32 → Int32 → Int32 → (Nat → Int32) → (Nat → Int32) → (Nat → Int32) → (Nat → Int32) → (Nat → Int32) → (Nat → Int32) → (Nat → Int32) → (Nat → Int32) → (Nat → Int32) → (Nat → Int32) → (Nat → Int32) → (Nat → Int32) → (Nat → Int32) → (Nat → Int32) → (Nat → Int32) → (Nat → Int32) → (Nat → Int32) → Prop} {s : Nat}
    (hs9 : s < 9) (hD : mc_Dg n ap an nv nc ns kd de fi se N) (K : ∀ bz' : Nat → Int32, mc_SI n ap an nv nc N (s + 1) 0 bz' → J (nI (s + 1)) dr (nI n) bu (nI N) ad ap an wf wt nv nc ns kd de fi se tb va bz' jF jT) :
    ∀ (d m : Nat) (bz : Nat → Int32), m + d = N → mc_SI n ap an nv nc N s m bz → wX_passSizes_14 post J (nI s) (d + 1) (nI m) dr (nI n) bu (nI N) ad ap an wf wt nv nc ns kd de fi se tb va bz jF jT := by
  intro d
  obtain ⟨_, hN, _, _, hns, hNd⟩ := hD
  induction d with
  | zero =>
    intro m bz hm h
    refine br_t (nI_le (by omega) (by omega)) (nm_r (nI_1 s) (K bz (fun i hi hp => h i hi ?_)))
    rcases hp with hp | hp
    · rcases Nat.lt_or_ge (mc_pop (nv i)) s with l | l
      · exact Or.inl l
      · exact Or.inr ⟨by omega, by omega⟩
    · exact absurd hp.2 (by omega)
  | succ d ih =>
    intro m bz hm h
    have cm : (nI m).toNatClampNeg = m := nI_clamp (by omega)
    have im : vp_in (nI m) 512 := vp_in_nI (by omega) (by decide)
    refine br_f (nI_ge (by omega) (by omega)) (And.intro im ?_)
    rw [cm, hns m (by omega)]
    have hpm := mc_pop_le (nv m)
    refine ek_if (nI_eq (by omega) (by omega)) (fun e => mc_x_sizes (n := n) (N := N) (by omega) hN (hNd m (by omega)) (fun f hf hp => h f hf (Or.inl (by omega))) (fun bz' hr => nm_r (nI_1 m) (ih (m + 1) bz' (by omega) (fun i hi hp k hk => ?_)))) (fun e => nm_r (nI_1 m) (ih (m + 1) bz (by omega) (fun i hi hp => h i hi ?_)))
    · by_cases z : i = m
      · rw [z]; exact hr.1 k hk
      · rw [mc_row_o hr z hk]
        refine h i hi ?_ k hk
        rcases hp with hp | hp
        · exact Or.inl hp
        · exact Or.inr ⟨hp.1, by omega⟩
    · rcases hp with hp | hp
      · exact Or.inl hp
      · refine Or.inr ⟨hp.1, ?_⟩
        rcases Nat.lt_or_ge i m with l | l
        · exact l
        · obtain rfl : i = m := by omega
          exact absurd hp.1 e
theorem mc_x_q6 {post : SX → Prop} (hD : mc_Dg n ap an nv nc ns kd de fi se N) (K : ∀ bz' : Nat → Int32, (∀ k, k < 9 → bz' k = mc_sw n ap an (nv 0) (nc 0) k) → post (dr, nI n, bu, nI N, ad, ap, an, wf, wt, nv, nc, ns, kd, de, fi, se, tb, va, bz', jF, jT)) :
    ∀ (d s : Nat) (bz : Nat → Int32), s + d = 9 → mc_SI n ap an nv nc N s 0 bz → wX_passSizes_6 post (d + 1) (nI s) dr (nI n) bu (nI N) ad ap an wf wt nv nc ns kd de fi se tb va bz jF jT := by
  intro d
  induction d with
  | zero =>
    intro s bz hs h
    refine br_t (nI_lt (a := 8) (by omega) (by omega)) (K bz (fun k hk => ?_))
    have hp := mc_pop_le (nv 0)
    have e := h 0 hD.1 (Or.inl (by omega)) k hk
    rw [Nat.zero_mul, Nat.zero_add] at e
    exact e
  | succ d ih =>
    intro s bz hs h
    exact br_f (nI_nlt (a := 8) (by omega) (by decide)) ⟨_, mc_x_q14 (by omega) hD (fun bz' h' => ih (s + 1) bz' (by omega) h') N 0 bz (by omega) h⟩
/-- a pass by sizes over any state between calls -/
theorem mc_x_passSizes {post : SX → Prop} (hn : n ≤ 14) (hb : bu = 0 ∨ (bu = 1 ∧ ∃ N, nd = nI N ∧ mc_Dg n ap an nv nc ns kd de fi se N))
    (K : ∀ (N' : Nat) (nv' nc' ns' kd' de' fi' se' tb' bz' : Nat → Int32), mc_Dg n ap an nv' nc' ns' kd' de' fi' se' N' → (∀ k, k < 9 → bz' k = nI (mc_cn (mc_sz n ap an (nI k)) 256)) →
      post (dr, nI n, 1, nI N', ad, ap, an, wf, wt, nv', nc', ns', kd', de', fi', se', tb', va, bz', jF, jT)) :
    wpX_passSizes post (dr, nI n, bu, nd, ad, ap, an, wf, wt, nv, nc, ns, kd, de, fi, se, tb, va, bz, jF, jT) := by
  refine mc_x_build hn hb (fun N' nv' nc' ns' kd' de' fi' se' tb' hD => ⟨_, mc_x_q6 hD (fun bz' h' => K N' nv' nc' ns' kd' de' fi' se' tb' bz' hD (fun k hk => ?_)) 9 0 bz (by omega) (fun i hi hp => ?_)⟩)
  · rw [h' k hk, hD.2.2.1, hD.2.2.2.1]
    exact mc_sroot hn ap an hk
  · rcases hp with hp | hp
    · omega
    · omega
theorem mc_x_countSize {post : Int32 → SX → Prop} {u : SX} {k : Nat} (hn : n ≤ 14) (hk : k < 9) (H : mc_XS dr n ad ap an wf wt u) (K : ∀ u', mc_XS dr n ad ap an wf wt u' → post (nI (mc_cn (mc_sz n ap an (nI k)) 256)) u') : wpX_countSize post u (nI k) := by
  refine mc_XS_el (P := fun u => wpX_countSize post u (nI k)) ?_ H
  intro bu nd nv nc ns kd de fi se tb va bz jF jT hb
  refine br_f (nI_pos (by omega)) (br_t (nI_le (b := 8) (by omega) (by decide)) (mc_x_passSizes hn hb (fun N' nv' nc' ns' kd' de' fi' se' tb' bz' hD h => And.intro (vp_in_nI (by omega) (by decide)) ?_)))
  rw [nI_clamp (show k < 2 ^ 31 by omega), h k hk]
  exact K _ (mc_XS_1 hD)
end
end
section
/-! countWithout: a variable's literals are taken out, and come back -/
section
variable {dr ct bu nd : Int32} {ad ap an wf wt nv nc ns kd de fi se tb va bz jF jT : Nat → Int32} {n : Nat}
theorem mc_XS_mk (h : (bu = 0 ∨ (bu = 1 ∧ ∃ N, nd = nI N ∧ mc_Dg n ap an nv nc ns kd de fi se N))) : mc_XS dr n ad ap an wf wt (dr, nI n, bu, nd, ad, ap, an, wf, wt, nv, nc, ns, kd, de, fi, se, tb, va, bz, jF, jT) :=
  ⟨bu, nd, nv, nc, ns, kd, de, fi, se, tb, va, bz, jF, jT, rfl, h⟩
/-- countAllowed, with the state spelt out -/
theorem mc_x_cax {post : Int32 → SX → Prop} {s t : Int32} (hn : n ≤ 14) (hs : ∀ j, 8 ≤ j → bt s j = false) (hb : (bu = 0 ∨ (bu = 1 ∧ ∃ N, nd = nI N ∧ mc_Dg n ap an nv nc ns kd de fi se N)))
    (K : ∀ (bu nd : Int32) (nv nc ns kd de fi se tb va bz jF jT : Nat → Int32), (bu = 0 ∨ (bu = 1 ∧ ∃ N, nd = nI N ∧ mc_Dg n ap an nv nc ns kd de fi se N)) → post (nI (mc_cn (mc_ag n ap an s t) 256)) (dr, nI n, bu, nd, ad, ap, an, wf, wt, nv, nc, ns, kd, de, fi, se, tb, va, bz, jF, jT)) : wpX_countAllowed post (dr, nI n, bu, nd, ad, ap, an, wf, wt, nv, nc, ns, kd, de, fi, se, tb, va, bz, jF, jT) s t :=
  mc_x_ca hn hs (mc_XS_mk hb) (fun u' hu => mc_XS_el (P := fun u => post (nI (mc_cn (mc_ag n ap an s t) 256)) u) K hu)
end
theorem mc_ag0 {n : Nat} {ap an : Nat → Int32} : mc_cn (mc_ag n ap an 0 0) 256 = mc_cn (mc_mt n ap an) 256 := by
  refine mc_cn_congr (fun a _ => ?_)
  have e : nI a &&& 0 = 0 &&& 0 := mc_ext (fun i => by rw [b_and, b_and, b_0, Bool.and_false, Bool.and_false])
  show (decide (nI a &&& 0 = 0 &&& 0) && mc_mt n ap an a) = _
  rw [decide_eq_true e, Bool.true_and]
/-- X without v, unless both literals stand -/
noncomputable def mc_rm (v : Nat) (P N X : Int32) : Int32 := if bt P v = true ∧ bt N v = true then X else X &&& (((1 : Int32) <<< (nI v &&& 31)) ^^^ (-1))
noncomputable def mc_rp (v : Nat) (ap an : Nat → Int32) (c : Nat) : Nat → Int32 := fun j => if j < c then mc_rm v (ap j) (an j) (ap j) else ap j
noncomputable def mc_rn (v : Nat) (ap an : Nat → Int32) (c : Nat) : Nat → Int32 := fun j => if j < c then mc_rm v (ap j) (an j) (an j) else an j
theorem mc_upd_lt {f g : Nat → Int32} {c : Nat} {x : Int32} (h : x = g c) : upd (fun j => if j < c then g j else f j) c x = fun j => if j < c + 1 then g j else f j := by
  funext j
  by_cases e : j = c
  · subst e
    rw [pk_us, if_pos (by omega), h]
  · rw [pk_un e]
    by_cases l : j < c
    · rw [if_pos l, if_pos (by omega)]
    · rw [if_neg l, if_neg (by omega)]
theorem mc_skip_lt {f g : Nat → Int32} {c : Nat} (h : f c = g c) : (fun j => if j < c then g j else f j) = fun j => if j < c + 1 then g j else f j := by
  funext j
  by_cases e : j = c
  · subst e
    rw [if_neg (by omega), if_pos (by omega), h]
  · by_cases l : j < c
    · rw [if_pos l, if_pos (by omega)]
    · rw [if_neg l, if_neg (by omega)]
def mc_mx (f g : Nat → Int32) (c : Nat) : Nat → Int32 := fun j => if j < c then f j else g j
theorem mc_mx_c {f g : Nat → Int32} {c : Nat} : mc_mx f g c c = g c := if_neg (by omega)
theorem mc_mx_u {f g : Nat → Int32} {c : Nat} : upd (mc_mx f g c) c (f c) = mc_mx f g (c + 1) := mc_upd_lt rfl
theorem mc_mx_0 {f g : Nat → Int32} : mc_mx f g 0 = g := funext (fun j => if_neg (by omega))
theorem mc_mx_n {f g : Nat → Int32} {c : Nat} (h : ∀ j, ¬ j < c → g j = f j) : mc_mx f g c = f := by
  funext j
  show (if j < c then f j else g j) = f j
  by_cases l : j < c
  · rw [if_pos l]
  · rw [if_neg l, h j l]
theorem mc_shb (b : Bool) {c : Nat} (hc : c < 32) (j : Nat) : bt ((if b = true then (1 : Int32) else 0) <<< (nI c &&& 31)) j = (b && decide (j = c)) := by
  cases b
  · rw [if_neg (by decide), Bool.false_and]
    rcases Nat.lt_or_ge j 32 with h | h
    · rw [b_shl c hc 0 h, b_0, Bool.and_false]
    · exact b_big h
  · rw [if_pos rfl, Bool.true_and, mc_shl1 hc]
theorem mc_always31 {x : Int32} {c : Nat} (hc : c < 31) : ((x >>> (nI c &&& 31)) <<< ((31 : Int32) &&& 31)) = 0 ↔ ¬ bt x c = true := by
  have e : ∀ j, j < 32 → bt ((x >>> (nI c &&& 31)) <<< ((31 : Int32) &&& 31)) j = (decide (31 ≤ j) && bt x c) := by
    intro j hj
    have := b_shl 31 (by omega) (x >>> (nI c &&& 31)) hj
    rw [show nI 31 = 31 from rfl] at this
    rw [this]
    by_cases l : 31 ≤ j
    · obtain rfl : j = 31 := by omega
      rw [b_sshr c (by omega) x (by omega), if_pos (by omega), Nat.sub_self, Nat.add_zero]
    · rw [decide_eq_false l, Bool.false_and, Bool.false_and]
  constructor
  · intro h hb
    have := e 31 (by omega)
    rw [h, b_0, hb] at this
    exact absurd this (by decide)
  · intro h
    apply b_ext
    intro j hj
    rw [e j hj, Bool.eq_false_iff.mpr h, Bool.and_false, b_0]
section
variable {dr ct bu nd : Int32} {ad ap an wf wt nv nc ns kd de fi se tb va bz jF jT : Nat → Int32} {n v : Nat} {h3 h4 : Int32}
/-- back again -/
theorem mc_back {P N X : Int32} (hv : v < 8) (hX : X = P ∨ X = N) : mc_rm v P N X ||| ((if bt X v = true then (1 : Int32) else 0) <<< (nI v &&& 31)) = X := by
  apply mc_ext
  intro j
  rw [b_or, mc_shb _ (by omega)]
  unfold mc_rm
  by_cases h : bt P v = true ∧ bt N v = true
  · rw [if_pos h]
    by_cases e : j = v
    · subst e
      have : bt X j = true := by rcases hX with rfl | rfl <;> simp [h.1, h.2]
      rw [this]; rfl
    · rw [decide_eq_false e, Bool.and_false, Bool.or_false]
  · rw [if_neg h, mc_not, mc_shl1 (by omega)]
    by_cases e : j = v
    · subst e
      rw [decide_eq_true rfl, Bool.not_true, Bool.and_false, Bool.false_or, Bool.and_true]
    · rw [decide_eq_false e, Bool.not_false, Bool.and_true, Bool.and_false, Bool.or_false]
theorem mc_x_w158 {post : Int32 → SX → Prop} {x5 : Int32} (hn : n ≤ 14) (hv : v < 8) (e3 : ∀ j, j < n → bt h3 j = bt (ap j) v) (e4 : ∀ j, j < n → bt h4 j = bt (an j) v) (K : post x5 (dr, nI n, 0, nd, ad, ap, an, wf, wt, nv, nc, ns, kd, de, fi, se, tb, va, bz, jF, jT)) :
    ∀ d c, c + d = n → wX_countWithout_158 post (nI v) h3 h4 x5 dr (nI n) bu nd (d + 1) (nI c) ad (mc_mx ap (mc_rp v ap an n) c) (mc_mx an (mc_rn v ap an n) c) wf wt nv nc ns kd de fi se tb va bz jF jT := by
  intro d
  induction d with
  | zero =>
    intro c hc
    obtain rfl : c = n := by omega
    have z1 : mc_mx ap (mc_rp v ap an c) c = ap := mc_mx_n (fun j l => if_neg l)
    have z2 : mc_mx an (mc_rn v ap an c) c = an := mc_mx_n (fun j l => if_neg l)
    rw [z1, z2]
    exact br_t (nI_le (by omega) (by omega)) K
  | succ d ih =>
    intro c hc
    have i1 := ih (c + 1) (by omega)
    have ic : vp_in (nI c) 14 := vp_in_nI (by omega) (by decide)
    have cc : (nI c).toNatClampNeg = c := nI_clamp (by omega)
    refine br_f (nI_ge (by omega) (by omega)) ?_
    rw [cc, mc_b1 h3 (show c < 32 by omega), mc_b1 h4 (show c < 32 by omega), e3 c (by omega), e4 c (by omega), mc_mx_c, mc_mx_c]
    have f1 : mc_rp v ap an n c = mc_rm v (ap c) (an c) (ap c) := if_pos (by omega)
    have f2 : mc_rn v ap an n c = mc_rm v (ap c) (an c) (an c) := if_pos (by omega)
    rw [f1, f2, mc_back hv (Or.inl rfl), mc_back hv (Or.inr rfl), mc_mx_u, mc_mx_u]
    exact And.intro ic (And.intro ic (nm_e (And.intro ic (And.intro ic (nm_e (nm_r (nI_1 c) i1))))))
theorem mc_x_w66 {post : Int32 → SX → Prop} (hn : n ≤ 14) (hv : v < 8) (e3 : ∀ j, j < n → bt h3 j = bt (ap j) v) (e4 : ∀ j, j < n → bt h4 j = bt (an j) v)
    (K : ∀ (bu nd : Int32) (nv nc ns kd de fi se tb va bz jF jT : Nat → Int32), post (nI (mc_cn (mc_mt n (mc_rp v ap an n) (mc_rn v ap an n)) 256)) (dr, nI n, 0, nd, ad, ap, an, wf, wt, nv, nc, ns, kd, de, fi, se, tb, va, bz, jF, jT)) :
    ∀ d c, c + d = n → wX_countWithout_66 post (nI v) ((1 : Int32) <<< (nI v &&& 31)) h3 h4 dr (nI n) bu nd (d + 1) (nI c) ad (mc_rp v ap an c) (mc_rn v ap an c) wf wt nv nc ns kd de fi se tb va bz jF jT := by
  intro d
  induction d with
  | zero =>
    intro c hc
    obtain rfl : c = n := by omega
    refine br_t (nI_le (by omega) (by omega)) (mc_x_cax hn (fun j _ => b_0 j) (Or.inl rfl) (fun bu nd nv nc ns kd de fi se tb va bz jF jT hb => ⟨c + 1, ?_⟩))
    have W := mc_x_w158 (ap := ap) (an := an) (bu := bu) (x5 := nI (mc_cn (mc_mt c (mc_rp v ap an c) (mc_rn v ap an c)) 256)) hn hv e3 e4 (K bu nd nv nc ns kd de fi se tb va bz jF jT) c 0 (by omega)
    rw [mc_mx_0, mc_mx_0] at W
    rw [mc_ag0]
    exact W
  | succ d ih =>
    intro c hc
    have i1 := ih (c + 1) (by omega)
    have ic : vp_in (nI c) 14 := vp_in_nI (by omega) (by decide)
    have cc : (nI c).toNatClampNeg = c := nI_clamp (by omega)
    have hb : bt (h3 &&& h4) c = (bt (ap c) v && bt (an c) v) := by rw [b_and, e3 c (by omega), e4 c (by omega)]
    have g1 : mc_rp v ap an c c = ap c := if_neg (by omega)
    have g2 : mc_rn v ap an c c = an c := if_neg (by omega)
    refine br_f (nI_ge (by omega) (by omega)) (ek_if (mc_always31 (by omega)) (fun h => br_t rfl ?_) (fun h => br_f mc_10 ?_))
    · have hx : ¬ (bt (ap c) v = true ∧ bt (an c) v = true) := by rw [hb, mc_and_t] at h; exact h
      have r1 : ap c &&& (((1 : Int32) <<< (nI v &&& 31)) ^^^ (-1)) = mc_rm v (ap c) (an c) (ap c) := (if_neg hx).symm
      have r2 : an c &&& (((1 : Int32) <<< (nI v &&& 31)) ^^^ (-1)) = mc_rm v (ap c) (an c) (an c) := (if_neg hx).symm
      have u1 : upd (mc_rp v ap an c) c (mc_rm v (ap c) (an c) (ap c)) = mc_rp v ap an (c + 1) := mc_upd_lt (g := fun j => mc_rm v (ap j) (an j) (ap j)) rfl
      have u2 : upd (mc_rn v ap an c) c (mc_rm v (ap c) (an c) (an c)) = mc_rn v ap an (c + 1) := mc_upd_lt (g := fun j => mc_rm v (ap j) (an j) (an j)) rfl
      rw [cc, g1, g2, r1, r2, u1, u2]
      exact And.intro ic (And.intro ic (nm_e (And.intro ic (And.intro ic (nm_e (nm_r (nI_1 c) i1))))))
    · have hx : bt (ap c) v = true ∧ bt (an c) v = true := by
        rw [hb, mc_and_t] at h; exact Classical.byContradiction h
      have r1 : mc_rm v (ap c) (an c) (ap c) = ap c := if_pos hx
      have r2 : mc_rm v (ap c) (an c) (an c) = an c := if_pos hx
      have u1 : mc_rp v ap an c = mc_rp v ap an (c + 1) := mc_skip_lt (g := fun j => mc_rm v (ap j) (an j) (ap j)) r1.symm
      have u2 : mc_rn v ap an c = mc_rn v ap an (c + 1) := mc_skip_lt (g := fun j => mc_rm v (ap j) (an j) (an j)) r2.symm
      rw [u1, u2]
      exact nm_r (nI_1 c) i1
theorem mc_x_w12 {post : Int32 → SX → Prop} (hn : n ≤ 14) (hv : v < 8) (K : ∀ h3 h4 : Int32, (∀ j, j < n → bt h3 j = bt (ap j) v) → (∀ j, j < n → bt h4 j = bt (an j) v) → ∃ n66, wX_countWithout_66 post (nI v) ((1 : Int32) <<< (nI v &&& 31)) h3 h4 dr (nI n) bu nd n66 0 ad ap an wf wt nv nc ns kd de fi se tb va bz jF jT) :
    ∀ d c x3 x4, c + d = n → (∀ j, bt x3 j = (decide (j < c) && bt (ap j) v)) → (∀ j, bt x4 j = (decide (j < c) && bt (an j) v)) → wX_countWithout_12 post (nI v) ((1 : Int32) <<< (nI v &&& 31)) dr (nI n) bu nd ad ap an wf wt nv nc ns kd de fi se tb va bz jF jT (d + 1) x3 x4 (nI c) := by
  intro d
  induction d with
  | zero =>
    intro c x3 x4 hc i3 i4
    refine br_t (nI_le (by omega) (by omega)) (K x3 x4 (fun j hj => ?_) (fun j hj => ?_))
    · rw [i3, decide_eq_true (show j < c by omega), Bool.true_and]
    · rw [i4, decide_eq_true (show j < c by omega), Bool.true_and]
  | succ d ih =>
    intro c x3 x4 hc i3 i4
    have ic : vp_in (nI c) 14 := vp_in_nI (by omega) (by decide)
    have cc : (nI c).toNatClampNeg = c := nI_clamp (by omega)
    have st : ∀ (y : Int32) (ma : Nat → Int32), (∀ j, bt y j = (decide (j < c) && bt (ma j) v)) → ∀ j, bt (y ||| ((if bt (ma c) v = true then (1 : Int32) else 0) <<< (nI c &&& 31))) j = (decide (j < c + 1) && bt (ma j) v) := by
      intro y ma hy j
      rw [b_or, mc_shb _ (by omega), hy]
      by_cases e : j = c
      · subst e
        rw [decide_eq_false (show ¬ j < j by omega), decide_eq_true (show j = j from rfl), decide_eq_true (show j < j + 1 by omega), Bool.false_and, Bool.false_or, Bool.and_true, Bool.true_and]
      · rw [decide_eq_false e, Bool.and_false, Bool.or_false, decide_eq_decide.mpr (show j < c ↔ j < c + 1 by omega)]
    refine br_f (nI_ge (by omega) (by omega)) ?_
    rw [cc, mc_b1 (ap c) (show v < 32 by omega), mc_b1 (an c) (show v < 32 by omega)]
    exact And.intro ic (nm_e (And.intro ic (nm_e (nm_r (nI_1 c) (ih (c + 1) _ _ (by omega) (st x3 ap i3) (st x4 an i4))))))
theorem mc_x_cw {post : Int32 → SX → Prop} (hn : n ≤ 14) (hv : v < 8)
    (K : ∀ (bu nd : Int32) (nv nc ns kd de fi se tb va bz jF jT : Nat → Int32), post (nI (mc_cn (mc_mt n (mc_rp v ap an n) (mc_rn v ap an n)) 256)) (dr, nI n, 0, nd, ad, ap, an, wf, wt, nv, nc, ns, kd, de, fi, se, tb, va, bz, jF, jT)) : wpX_countWithout post (dr, nI n, bu, nd, ad, ap, an, wf, wt, nv, nc, ns, kd, de, fi, se, tb, va, bz, jF, jT) (nI v) := by
  refine nm_e ⟨_, mc_x_w12 hn hv (fun h3 h4 e3 e4 => ⟨n + 1, ?_⟩) n 0 0 0 (by omega) (fun j => ?_) (fun j => ?_)⟩
  · have W := mc_x_w66 (bu := bu) (nd := nd) (nv := nv) (nc := nc) (ns := ns) (kd := kd) (de := de) (fi := fi) (se := se) (tb := tb) (va := va) (bz := bz) (jF := jF) (jT := jT) hn hv e3 e4 K n 0 (by omega)
    have z1 : mc_rp v ap an 0 = ap := funext (fun j => if_neg (by omega))
    have z2 : mc_rn v ap an 0 = an := funext (fun j => if_neg (by omega))
    rw [z1, z2] at W
    exact W
  · rw [b_0, decide_eq_false (show ¬ j < 0 by omega), Bool.false_and]
  · rw [b_0, decide_eq_false (show ¬ j < 0 by omega), Bool.false_and]
end
/-! what is counted then -/
theorem mc_flip {a v j : Nat} : (a ^^^ 2 ^ v).testBit j = (a.testBit j ^^ decide (v = j)) := by rw [Nat.testBit_xor, Nat.testBit_two_pow]
theorem mc_flip_n {a v j : Nat} (h : j ≠ v) : (a ^^^ 2 ^ v).testBit j = a.testBit j := by rw [mc_flip, decide_eq_false (fun z => h z.symm), Bool.xor_false]
theorem mc_flip_v {a v : Nat} : (a ^^^ 2 ^ v).testBit v = !a.testBit v := by rw [mc_flip, decide_eq_true rfl, Bool.xor_true]
theorem mc_rm_cl {P N : Int32} {v a : Nat} (hv : v < 8) : mc_cl (mc_rm v P N P) (mc_rm v P N N) 255 (fun j => a.testBit j) ↔ mc_cl P N 255 (fun j => a.testBit j) ∧ mc_cl P N 255 (fun j => (a ^^^ 2 ^ v).testBit j) := by
  have h255 : ∀ u, u < 8 → bt 255 u = true := fun u hu => by rw [b_255]; exact decide_eq_true hu
  unfold mc_rm
  by_cases h : bt P v = true ∧ bt N v = true
  · rw [if_pos h, if_pos h]
    have all : ∀ x : Nat, mc_cl P N 255 (fun j => x.testBit j) := by
      intro x
      refine ⟨v, hv, h255 v hv, ?_⟩
      show (bt P v = true ∧ x.testBit v = true) ∨ (bt N v = true ∧ x.testBit v = false)
      cases x.testBit v
      · exact Or.inr ⟨h.2, rfl⟩
      · exact Or.inl ⟨h.1, rfl⟩
    exact ⟨fun _ => ⟨all _, all _⟩, fun _ => all _⟩
  · rw [if_neg h, if_neg h]
    have hb : ∀ (X : Int32) (u : Nat), bt (X &&& (((1 : Int32) <<< (nI v &&& 31)) ^^^ (-1))) u = (bt X u && !decide (u = v)) := fun X u => by rw [mc_not, mc_shl1 (by omega)]
    have hn : ∀ (X : Int32) (u : Nat), bt (X &&& (((1 : Int32) <<< (nI v &&& 31)) ^^^ (-1))) u = true → bt X u = true ∧ u ≠ v := by
      intro X u hx
      rw [hb, mc_and_t] at hx
      refine ⟨hx.1, fun z => ?_⟩
      rw [decide_eq_true z] at hx
      exact absurd hx.2 (by decide)
    have hp : ∀ (X : Int32) (u : Nat), bt X u = true → u ≠ v → bt (X &&& (((1 : Int32) <<< (nI v &&& 31)) ^^^ (-1))) u = true := by
      intro X u hx hu
      rw [hb, hx, decide_eq_false hu]; rfl
    constructor
    · rintro ⟨u, hu, hV, ⟨x1, x2⟩ | ⟨x1, x2⟩⟩
      · obtain ⟨y1, y2⟩ := hn P u x1
        refine ⟨⟨u, hu, hV, Or.inl ⟨y1, x2⟩⟩, ⟨u, hu, hV, Or.inl ⟨y1, ?_⟩⟩⟩
        show (a ^^^ 2 ^ v).testBit u = true
        rw [mc_flip_n y2]; exact x2
      · obtain ⟨y1, y2⟩ := hn N u x1
        refine ⟨⟨u, hu, hV, Or.inr ⟨y1, x2⟩⟩, ⟨u, hu, hV, Or.inr ⟨y1, ?_⟩⟩⟩
        show (a ^^^ 2 ^ v).testBit u = false
        rw [mc_flip_n y2]; exact x2
    · rintro ⟨⟨u, hu, hV, hx⟩, ⟨w, hw, hW, hy⟩⟩
      have hx' : (bt P u = true ∧ a.testBit u = true) ∨ (bt N u = true ∧ a.testBit u = false) := hx
      have hy' : (bt P w = true ∧ (a ^^^ 2 ^ v).testBit w = true) ∨ (bt N w = true ∧ (a ^^^ 2 ^ v).testBit w = false) := hy
      by_cases e : u = v
      · by_cases e2 : w = v
        · exfalso
          rw [e] at hx'
          rw [e2, mc_flip_v] at hy'
          rcases hx' with ⟨p1, p2⟩ | ⟨p1, p2⟩
          · rw [p2] at hy'
            rcases hy' with ⟨q1, q2⟩ | ⟨q1, q2⟩
            · exact absurd q2 (by decide)
            · exact h ⟨p1, q1⟩
          · rw [p2] at hy'
            rcases hy' with ⟨q1, q2⟩ | ⟨q1, q2⟩
            · exact h ⟨q1, p1⟩
            · exact absurd q2 (by decide)
        · rw [mc_flip_n e2] at hy'
          rcases hy' with ⟨q1, q2⟩ | ⟨q1, q2⟩
          · exact ⟨w, hw, hW, Or.inl ⟨hp P w q1 e2, q2⟩⟩
          · exact ⟨w, hw, hW, Or.inr ⟨hp N w q1 e2, q2⟩⟩
      · rcases hx' with ⟨q1, q2⟩ | ⟨q1, q2⟩
        · exact ⟨u, hu, hV, Or.inl ⟨hp P u q1 e, q2⟩⟩
        · exact ⟨u, hu, hV, Or.inr ⟨hp N u q1 e, q2⟩⟩
theorem mc_rm_mt {n v : Nat} {ap an : Nat → Int32} (hv : v < 8) (a : Nat) : mc_mt n (mc_rp v ap an n) (mc_rn v ap an n) a = (mc_mt n ap an a && mc_mt n ap an (a ^^^ 2 ^ v)) := by
  unfold mc_mt
  rw [← mc_dec_and]
  have e1 : ∀ c, c < n → mc_rp v ap an n c = mc_rm v (ap c) (an c) (ap c) := fun c hc => if_pos hc
  have e2 : ∀ c, c < n → mc_rn v ap an n c = mc_rm v (ap c) (an c) (an c) := fun c hc => if_pos hc
  refine mc_dec_congr ⟨fun H => ⟨fun c hc => ?_, fun c hc => ?_⟩, fun H c hc => ?_⟩
  · have := H c hc
    rw [e1 c hc, e2 c hc] at this
    exact ((mc_rm_cl hv).mp this).1
  · have := H c hc
    rw [e1 c hc, e2 c hc] at this
    exact ((mc_rm_cl hv).mp this).2
  · rw [e1 c hc, e2 c hc]
    exact (mc_rm_cl hv).mpr ⟨H.1 c hc, H.2 c hc⟩
theorem mc_flip256 {a v : Nat} (ha : a < 256) (hv : v < 8) : a ^^^ 2 ^ v < 256 :=
  Nat.xor_lt_two_pow (n := 8) ha (Nat.pow_lt_pow_right (by decide) hv)
noncomputable def mc_idl (n : Nat) (ap an : Nat → Int32) (v : Nat) : Bool := mc_dec (∀ a, a < 256 → mc_mt n ap an a = true → mc_mt n ap an (a ^^^ 2 ^ v) = true)
theorem mc_idl_iff {n v : Nat} {ap an : Nat → Int32} (hv : v < 8) : nI (mc_cn (mc_mt n (mc_rp v ap an n) (mc_rn v ap an n)) 256) = nI (mc_cn (mc_mt n ap an) 256) ↔ mc_idl n ap an v = true := by
  have l1 := mc_cn_le (mc_mt n (mc_rp v ap an n) (mc_rn v ap an n)) 256
  have l2 := mc_cn_le (mc_mt n ap an) 256
  unfold mc_idl
  rw [nI_eq (by omega) (by omega), mc_dec_iff]
  constructor
  · intro h a ha hm
    have := mc_cn_same (n := 256) (fun i _ hi => by rw [mc_rm_mt hv, mc_and_t] at hi; exact hi.1) h ha hm
    rw [mc_rm_mt hv, mc_and_t] at this
    exact this.2
  · intro h
    refine mc_cn_congr (fun a ha => ?_)
    rw [mc_rm_mt hv]
    cases e : mc_mt n ap an a
    · rfl
    · rw [h a ha e]; rfl
end
section
/-! the questions: pure parts, and the reference -/
def mc_mask (p : Nat → Bool) : Nat → Int32
  | 0 => 0
  | v + 1 => if p v = true then mc_mask p v ||| ((1 : Int32) <<< (nI v &&& 31)) else mc_mask p v
theorem mc_mask_b (p : Nat → Bool) (v : Nat) (hv : v ≤ 31) (j : Nat) : bt (mc_mask p v) j = (decide (j < v) && p j) := by
  induction v with
  | zero => rw [decide_eq_false (by omega), Bool.false_and]; exact b_0 j
  | succ v ih =>
    have e := ih (by omega)
    show bt (if p v = true then mc_mask p v ||| ((1 : Int32) <<< (nI v &&& 31)) else mc_mask p v) j = _
    by_cases z : j = v
    · subst z
      rw [decide_eq_true (show j < j + 1 by omega), Bool.true_and]
      by_cases h : p j = true
      · rw [if_pos h, b_or, mc_shl1 (by omega), decide_eq_true rfl, Bool.or_true, h]
      · rw [if_neg h, e, decide_eq_false (show ¬ j < j by omega), Bool.false_and, Bool.eq_false_iff.mpr h]
    · rw [decide_eq_decide.mpr (show j < v + 1 ↔ j < v by omega), ← e]
      by_cases h : p v = true
      · rw [if_pos h, b_or, mc_shl1 (by omega), decide_eq_false z, Bool.or_false]
      · rw [if_neg h]
theorem mc_mask_congr {p q : Nat → Bool} {v : Nat} (h : ∀ j, j < v → p j = q j) : mc_mask p v = mc_mask q v := by
  induction v with
  | zero => rfl
  | succ v ih =>
    show (if p v = true then mc_mask p v ||| ((1 : Int32) <<< (nI v &&& 31)) else mc_mask p v) = (if q v = true then mc_mask q v ||| ((1 : Int32) <<< (nI v &&& 31)) else mc_mask q v)
    rw [ih (fun j hj => h j (by omega)), h v (by omega)]
def mc_at (p : Nat → Bool) : Nat → Int32
  | 0 => 255
  | b + 1 => if p b = true then mc_at p b &&& nI b else mc_at p b
def mc_af (p : Nat → Bool) : Nat → Int32
  | 0 => 0
  | b + 1 => if p b = true then mc_af p b ||| nI b else mc_af p b
theorem mc_at_b (p : Nat → Bool) (b : Nat) (hb : b ≤ 256) (j : Nat) : bt (mc_at p b) j = true ↔ j < 8 ∧ ∀ a, a < b → p a = true → a.testBit j = true := by
  induction b with
  | zero =>
    show bt 255 j = true ↔ _
    rw [b_255, decide_eq_true_iff]
    exact ⟨fun h => ⟨h, fun a ha => absurd ha (by omega)⟩, fun h => h.1⟩
  | succ b ih =>
    have e := ih (by omega)
    show bt (if p b = true then mc_at p b &&& nI b else mc_at p b) j = true ↔ _
    by_cases h : p b = true
    · rw [if_pos h, b_and, mc_and_t, e, mc_bn (by omega)]
      constructor
      · intro z
        refine ⟨z.1.1, fun a ha hp => ?_⟩
        by_cases y : a = b
        · rw [y]; exact z.2
        · exact z.1.2 a (by omega) hp
      · exact fun z => ⟨⟨z.1, fun a ha => z.2 a (by omega)⟩, z.2 b (by omega) h⟩
    · rw [if_neg h, e]
      constructor
      · intro z
        refine ⟨z.1, fun a ha hp => ?_⟩
        by_cases y : a = b
        · rw [y] at hp; exact absurd hp h
        · exact z.2 a (by omega) hp
      · exact fun z => ⟨z.1, fun a ha => z.2 a (by omega)⟩
theorem mc_af_b (p : Nat → Bool) (b : Nat) (hb : b ≤ 256) (j : Nat) : bt (mc_af p b) j = true ↔ ∃ a, a < b ∧ p a = true ∧ a.testBit j = true := by
  induction b with
  | zero =>
    show bt 0 j = true ↔ _
    rw [b_0]
    exact ⟨fun h => absurd h (by decide), fun ⟨a, ha, _⟩ => absurd ha (by omega)⟩
  | succ b ih =>
    have e := ih (by omega)
    show bt (if p b = true then mc_af p b ||| nI b else mc_af p b) j = true ↔ _
    by_cases h : p b = true
    · rw [if_pos h, b_or, mc_or_t, e, mc_bn (by omega)]
      constructor
      · rintro (⟨a, ha, z⟩ | z)
        · exact ⟨a, by omega, z⟩
        · exact ⟨b, by omega, h, z⟩
      · rintro ⟨a, ha, z⟩
        by_cases y : a = b
        · rw [y] at z; exact Or.inr z.2
        · exact Or.inl ⟨a, by omega, z⟩
    · rw [if_neg h, e]
      constructor
      · rintro ⟨a, ha, z⟩; exact ⟨a, by omega, z⟩
      · rintro ⟨a, ha, z⟩
        by_cases y : a = b
        · rw [y] at z; exact absurd z.1 h
        · exact ⟨a, by omega, z⟩
/-! assignments that share the bits from w on -/
theorem mc_ag_rng {n : Nat} {ap an : Nat → Int32} {s t : Int32} {w T : Nat} (hT : T * 2 ^ w + 2 ^ w ≤ 256) (hs : ∀ j, bt s j = (decide (w ≤ j) && decide (j < 8))) (ht : ∀ j, w ≤ j → j < 8 → bt t j = (T * 2 ^ w).testBit j) :
    mc_cn (mc_ag n ap an s t) 256 + mc_cn (mc_mt n ap an) (T * 2 ^ w) = mc_cn (mc_mt n ap an) (T * 2 ^ w + 2 ^ w) := by
  rw [← mc_cn_rng (mc_mt n ap an) (Nat.le_add_right (T * 2 ^ w) (2 ^ w)) hT]
  congr 1
  refine mc_cn_congr (fun b hb => ?_)
  have hP : 0 < 2 ^ w := Nat.two_pow_pos w
  have h8 : ∀ j, 8 ≤ j → bt s j = false := fun j hj => by rw [hs, decide_eq_false (show ¬ j < 8 by omega), Bool.and_false]
  have key : (nI b &&& s = t &&& s) ↔ (T * 2 ^ w ≤ b ∧ b < T * 2 ^ w + 2 ^ w) := by
    rw [mc_ag_iff hb h8]
    have k1 : (T * 2 ^ w ≤ b ∧ b < T * 2 ^ w + 2 ^ w) ↔ b / 2 ^ w = T := by
      have a1 : T ≤ b / 2 ^ w ↔ T * 2 ^ w ≤ b := Nat.le_div_iff_mul_le hP
      have a2 : b / 2 ^ w < T + 1 ↔ b < (T + 1) * 2 ^ w := Nat.div_lt_iff_lt_mul hP
      rw [Nat.add_mul, Nat.one_mul] at a2
      rw [← a1, ← a2]
      omega
    rw [k1]
    constructor
    · intro h
      apply Nat.eq_of_testBit_eq
      intro i
      rw [Nat.testBit_div_two_pow]
      have eT : (T * 2 ^ w).testBit (i + w) = T.testBit i := by rw [Nat.testBit_mul_two_pow, decide_eq_true (by omega), Bool.true_and, Nat.add_sub_cancel]
      rcases Nat.lt_or_ge (i + w) 8 with l | l
      · have := h (i + w) l (by rw [hs, decide_eq_true (show w ≤ i + w by omega), decide_eq_true l]; rfl)
        rw [this, ht _ (by omega) l, eT]
      · rw [mc_tb8 hb l, ← eT, mc_tb8 (by omega) l]
    · intro h j hj hb'
      have hwj : w ≤ j := by
        rw [hs, mc_and_t] at hb'
        exact of_decide_eq_true hb'.1
      rw [ht j hwj hj, Nat.testBit_mul_two_pow, decide_eq_true hwj, Bool.true_and, ← h, Nat.testBit_div_two_pow, Nat.sub_add_cancel hwj]
  show (decide (nI b &&& s = t &&& s) && mc_mt n ap an b) = (mc_mt n ap an b && (decide (T * 2 ^ w ≤ b) && decide (b < T * 2 ^ w + 2 ^ w)))
  by_cases z : T * 2 ^ w ≤ b ∧ b < T * 2 ^ w + 2 ^ w
  · rw [decide_eq_true (key.mpr z), decide_eq_true z.1, decide_eq_true z.2, Bool.true_and, Bool.and_self, Bool.and_true]
  · rw [decide_eq_false (fun y => z (key.mp y)), Bool.false_and]
    by_cases y : T * 2 ^ w ≤ b
    · rw [decide_eq_false (fun x => z ⟨y, x⟩), Bool.and_false, Bool.and_false]
    · rw [decide_eq_false y, Bool.false_and, Bool.and_false]
section
variable {n : Nat} {ap an : Nat → Int32} {lt sz wg : Nat → Int32} {cl : Int32}
/-! model -/
theorem mc_y_md {post : Int32 → Prop} {x1 : Int32} (H : mc_YR n ap an lt sz) (K1 : ∀ b, b < 256 → mc_mt n ap an b = true → nI (mc_cn (mc_mt n ap an) b) = x1 → post (nI b)) (K0 : (∀ b, b < 256 → mc_mt n ap an b = true → ¬ nI (mc_cn (mc_mt n ap an) b) = x1) → post (-4)) :
    ∀ d b, b + d = 256 → (∀ j, j < b → mc_mt n ap an j = true → ¬ nI (mc_cn (mc_mt n ap an) j) = x1) → wY_model_4 post x1 (nI n) lt sz wg (d + 1) (nI (mc_cn (mc_mt n ap an) b)) (nI b) := by
  intro d
  induction d with
  | zero =>
    intro b hb h
    exact br_t (nI_le (a := 256) (by omega) (by omega)) (K0 (fun j hj => h j (by omega)))
  | succ d ih =>
    intro b hb h
    have i1 := ih (b + 1) (by omega)
    refine br_f (nI_ge (b := 256) (by omega) (by omega)) (mc_y_mk H (by omega) (fun hx => br_f mc_10 (br_c (fun e => K1 b (by omega) hx e) (fun e => nm_r (nI_1 _) (nm_r (nI_1 b) ?_)))) (fun hx => br_t rfl (nm_r (nI_1 b) ?_)))
    · rw [mc_cn_t hx] at i1
      refine i1 (fun j hj hm => ?_)
      by_cases z : j = b
      · rw [z]; exact e
      · exact h j (by omega) hm
    · rw [mc_cn_f (mc_nf hx)] at i1
      refine i1 (fun j hj hm => ?_)
      by_cases z : j = b
      · rw [z, hx] at hm; exact absurd hm (by decide)
      · exact h j (by omega) hm
theorem mc_y_model {post : Int32 → Prop} {x1 : Int32} (H : mc_YR n ap an lt sz) (K1 : ∀ b, b < 256 → mc_mt n ap an b = true → nI (mc_cn (mc_mt n ap an) b) = x1 → post (nI b)) (K0 : (∀ b, b < 256 → mc_mt n ap an b = true → ¬ nI (mc_cn (mc_mt n ap an) b) = x1) → post (-4)) :
    wpY_model post (nI n, lt, sz, wg) x1 := ⟨_, mc_y_md H K1 K0 256 0 (by omega) (fun j hj => absurd hj (by omega))⟩
/-! alwaysTrue, alwaysFalse -/
def mc_some (p : Nat → Bool) (b : Nat) : Int32 := if mc_cn p b = 0 then 0 else 1
theorem mc_some_t {p : Nat → Bool} {b : Nat} (h : p b = true) : mc_some p (b + 1) = 1 := by unfold mc_some; rw [mc_cn_t h, if_neg (by omega)]
theorem mc_some_f {p : Nat → Bool} {b : Nat} (h : ¬ p b = true) : mc_some p (b + 1) = mc_some p b := by unfold mc_some; rw [mc_cn_f h]
theorem mc_some_0 {p : Nat → Bool} {b : Nat} : mc_some p b = 0 ↔ mc_cn p b = 0 := by
  unfold mc_some
  by_cases h : mc_cn p b = 0
  · rw [if_pos h]; exact ⟨fun _ => h, fun _ => rfl⟩
  · rw [if_neg h]; exact ⟨fun z => absurd z (by decide), fun z => absurd z h⟩
theorem mc_y_at {post : Int32 → Prop} (H : mc_YR n ap an lt sz) (K0 : mc_cn (mc_mt n ap an) 256 = 0 → post (-4)) (K1 : ¬ mc_cn (mc_mt n ap an) 256 = 0 → post (mc_at (mc_mt n ap an) 256)) :
    ∀ d b, b + d = 256 → wY_alwaysTrue_8 post (nI n) lt sz wg (d + 1) (mc_at (mc_mt n ap an) b) (mc_some (mc_mt n ap an) b) (nI b) := by
  intro d
  induction d with
  | zero =>
    intro b hb
    obtain rfl : b = 256 := by omega
    exact br_t (nI_le (a := 256) (by omega) (by omega)) (ek_if mc_some_0 K0 K1)
  | succ d ih =>
    intro b hb
    have i1 := ih (b + 1) (by omega)
    have e1 : mc_at (mc_mt n ap an) (b + 1) = if mc_mt n ap an b = true then mc_at (mc_mt n ap an) b &&& nI b else mc_at (mc_mt n ap an) b := rfl
    refine br_f (nI_ge (b := 256) (by omega) (by omega)) (mc_y_mk H (by omega) (fun hx => br_f mc_10 ?_) (fun hx => br_t rfl (nm_r (nI_1 b) ?_)))
    · rw [e1, if_pos hx, mc_some_t hx] at i1
      exact nm_e (nm_r (nI_1 b) i1)
    · rw [e1, if_neg (mc_nf hx), mc_some_f (mc_nf hx)] at i1
      exact i1
theorem mc_y_alwaysTrue {post : Int32 → Prop} (H : mc_YR n ap an lt sz) (K0 : mc_cn (mc_mt n ap an) 256 = 0 → post (-4)) (K1 : ¬ mc_cn (mc_mt n ap an) 256 = 0 → post (mc_at (mc_mt n ap an) 256)) : wpY_alwaysTrue post (nI n, lt, sz, wg) :=
  ⟨_, mc_y_at H K0 K1 256 0 (by omega)⟩
theorem mc_y_af {post : Int32 → Prop} (H : mc_YR n ap an lt sz) (K0 : mc_cn (mc_mt n ap an) 256 = 0 → post (-4)) (K1 : ¬ mc_cn (mc_mt n ap an) 256 = 0 → post (255 - mc_af (mc_mt n ap an) 256)) :
    ∀ d b, b + d = 256 → wY_alwaysFalse_6 post (nI n) lt sz wg (d + 1) (mc_af (mc_mt n ap an) b) (mc_some (mc_mt n ap an) b) (nI b) := by
  intro d
  induction d with
  | zero =>
    intro b hb
    obtain rfl : b = 256 := by omega
    exact br_t (nI_le (a := 256) (by omega) (by omega)) (ek_if mc_some_0 K0 K1)
  | succ d ih =>
    intro b hb
    have i1 := ih (b + 1) (by omega)
    have e1 : mc_af (mc_mt n ap an) (b + 1) = if mc_mt n ap an b = true then mc_af (mc_mt n ap an) b ||| nI b else mc_af (mc_mt n ap an) b := rfl
    refine br_f (nI_ge (b := 256) (by omega) (by omega)) (mc_y_mk H (by omega) (fun hx => br_f mc_10 ?_) (fun hx => br_t rfl (nm_r (nI_1 b) ?_)))
    · rw [e1, if_pos hx, mc_some_t hx] at i1
      exact nm_e (nm_r (nI_1 b) i1)
    · rw [e1, if_neg (mc_nf hx), mc_some_f (mc_nf hx)] at i1
      exact i1
theorem mc_y_alwaysFalse {post : Int32 → Prop} (H : mc_YR n ap an lt sz) (K0 : mc_cn (mc_mt n ap an) 256 = 0 → post (-4)) (K1 : ¬ mc_cn (mc_mt n ap an) 256 = 0 → post (255 - mc_af (mc_mt n ap an) 256)) : wpY_alwaysFalse post (nI n, lt, sz, wg) :=
  ⟨_, mc_y_af H K0 K1 256 0 (by omega)⟩
/-! idle -/
theorem mc_p2 : ∀ v, v < 8 → (1 : Int32) <<< (nI v &&& 31) = nI (2 ^ v) := by decide +kernel
theorem mc_y_ii {post : Int32 → Prop} {v : Nat} (H : mc_YR n ap an lt sz) (hv : v < 8) (K1 : mc_idl n ap an v = true → post 1) (K0 : mc_idl n ap an v = false → post 0) :
    ∀ d b, b + d = 256 → (∀ a, a < b → mc_mt n ap an a = true → mc_mt n ap an (a ^^^ 2 ^ v) = true) → wY_isIdle_2 post (nI v) (nI n) lt sz wg (d + 1) (nI b) := by
  intro d
  induction d with
  | zero =>
    intro b hb h
    exact br_t (nI_le (a := 256) (by omega) (by omega)) (K1 (mc_dec_t (fun a ha => h a (by omega))))
  | succ d ih =>
    intro b hb h
    have i1 := ih (b + 1) (by omega)
    refine br_f (nI_ge (b := 256) (by omega) (by omega)) (mc_y_mk H (by omega) (fun hx => br_f mc_10 ?_) (fun hx => br_t rfl (nm_r (nI_1 b) (i1 (fun a ha hm => ?_)))))
    · rw [mc_p2 v hv, nx_xor]
      refine mc_y_mk H (mc_flip256 (by omega) hv) (fun hy => br_f mc_10 (nm_r (nI_1 b) (i1 (fun a ha hm => ?_)))) (fun hy => br_t rfl (K0 (mc_dec_f (fun z => ?_))))
      · by_cases z : a = b
        · rw [z]; exact hy
        · exact h a (by omega) hm
      · have := z b (by omega) hx
        rw [hy] at this; exact absurd this (by decide)
    · by_cases z : a = b
      · rw [z, hx] at hm; exact absurd hm (by decide)
      · exact h a (by omega) hm
theorem mc_y_isIdle {post : Int32 → Prop} {v : Nat} (H : mc_YR n ap an lt sz) (hv : v < 8) (K1 : mc_idl n ap an v = true → post 1) (K0 : mc_idl n ap an v = false → post 0) : wpY_isIdle post (nI n, lt, sz, wg) (nI v) :=
  ⟨_, mc_y_ii H hv K1 K0 256 0 (by omega) (fun j hj => absurd hj (by omega))⟩
theorem mc_y_id {post : Int32 → Prop} (H : mc_YR n ap an lt sz) (K : post (mc_mask (mc_idl n ap an) 8)) :
    ∀ d v, v + d = 8 → wY_idle_4 post (nI n) lt sz wg (d + 1) (mc_mask (mc_idl n ap an) v) (nI v) := by
  intro d
  induction d with
  | zero =>
    intro v hv
    obtain rfl : v = 8 := by omega
    exact br_t (nI_le (a := 8) (by omega) (by omega)) K
  | succ d ih =>
    intro v hv
    have i1 := ih (v + 1) (by omega)
    have e1 : mc_mask (mc_idl n ap an) (v + 1) = if mc_idl n ap an v = true then mc_mask (mc_idl n ap an) v ||| ((1 : Int32) <<< (nI v &&& 31)) else mc_mask (mc_idl n ap an) v := rfl
    refine br_f (nI_ge (b := 8) (by omega) (by omega)) (mc_y_isIdle H (by omega) (fun hx => br_f mc_10 ?_) (fun hx => br_t rfl (nm_r (nI_1 v) ?_)))
    · rw [e1, if_pos hx] at i1
      exact nm_e (nm_r (nI_1 v) i1)
    · rw [e1, if_neg (mc_nf hx)] at i1
      exact i1
theorem mc_y_idle {post : Int32 → Prop} (H : mc_YR n ap an lt sz) (K : post (mc_mask (mc_idl n ap an) 8)) : wpY_idle post (nI n, lt, sz, wg) := ⟨_, mc_y_id H K 8 0 (by omega)⟩
end
end
section
/-! the questions: the component -/
theorem mc_half (a w : Nat) : a / 2 ^ (w + 1) = a / 2 ^ w / 2 := by rw [Nat.pow_succ, ← Nat.div_div_eq_div_mul]
theorem mc_dbl (q w : Nat) : q * 2 ^ (w + 1) = 2 * q * 2 ^ w := by rw [Nat.pow_succ, Nat.mul_comm (2 ^ w) 2, ← Nat.mul_assoc, Nat.mul_comm q 2]
theorem mc_dbl1 (q w : Nat) : (2 * q + 1) * 2 ^ w = 2 * q * 2 ^ w + 2 ^ w := by rw [Nat.add_mul, Nat.one_mul]
theorem mc_set_b {x3 : Int32} {w : Nat} (hw : w < 8) (h : ∀ j, bt x3 j = (decide (w + 1 ≤ j) && decide (j < 8))) (j : Nat) : bt (x3 ||| ((1 : Int32) <<< (nI w &&& 31))) j = (decide (w ≤ j) && decide (j < 8)) := by
  rw [b_or, mc_shl1 (by omega), h]
  by_cases e : j = w
  · subst e
    rw [decide_eq_true (show j = j from rfl), Bool.or_true, decide_eq_true (Nat.le_refl j), decide_eq_true hw]; rfl
  · rw [decide_eq_false e, Bool.or_false, decide_eq_decide.mpr (show w + 1 ≤ j ↔ w ≤ j by omega)]
theorem mc_set_8 {x : Int32} {w : Nat} (h : ∀ j, bt x j = (decide (w ≤ j) && decide (j < 8))) (j : Nat) (hj : 8 ≤ j) : bt x j = false := by
  rw [h, decide_eq_false (show ¬ j < 8 by omega), Bool.and_false]
theorem mc_or1 {q w : Nat} (hw : w < 8) (h : (2 * q + 1) * 2 ^ w < 256) : nI (2 * q * 2 ^ w) ||| ((1 : Int32) <<< (nI w &&& 31)) = nI ((2 * q + 1) * 2 ^ w) := by
  have hd := mc_dbl1 q w
  have hpos := Nat.two_pow_pos w
  apply mc_ext
  intro j
  rw [b_or, mc_shl1 (by omega), mc_bn (by omega), mc_bn (by omega), Nat.testBit_mul_two_pow, Nat.testBit_mul_two_pow]
  by_cases e : j = w
  · subst e
    rw [Nat.sub_self, Nat.testBit_zero, Nat.testBit_zero, decide_eq_true (show j = j from rfl), Bool.or_true, decide_eq_true (Nat.le_refl j), decide_eq_true (show (2 * q + 1) % 2 = 1 by omega)]; rfl
  · rw [decide_eq_false e, Bool.or_false]
    by_cases l : w ≤ j
    · rw [show j - w = (j - w - 1) + 1 by omega, Nat.testBit_add_one, Nat.testBit_add_one, show 2 * q / 2 = q by omega, show (2 * q + 1) / 2 = q by omega]
    · rw [decide_eq_false l, Bool.false_and, Bool.false_and]
section
variable {dr ct bu nd : Int32} {ad ap an wf wt nv nc ns kd de fi se tb va bz jF jT : Nat → Int32} {n : Nat}
/-! rank -/
theorem mc_x_rk {post : Int32 → SX → Prop} {a : Nat} (hn : n ≤ 14) (ha : a < 256) (K : ∀ (bu nd : Int32) (nv nc ns kd de fi se tb va bz jF jT : Nat → Int32), (bu = 0 ∨ (bu = 1 ∧ ∃ N, nd = nI N ∧ mc_Dg n ap an nv nc ns kd de fi se N)) → post (nI (mc_cn (mc_mt n ap an) a)) (dr, nI n, bu, nd, ad, ap, an, wf, wt, nv, nc, ns, kd, de, fi, se, tb, va, bz, jF, jT)) :
    ∀ (w : Nat) (x3 x4 : Int32) (bu nd : Int32) (nv nc ns kd de fi se tb va bz jF jT : Nat → Int32), w ≤ 8 → (bu = 0 ∨ (bu = 1 ∧ ∃ N, nd = nI N ∧ mc_Dg n ap an nv nc ns kd de fi se N)) → (∀ j, bt x3 j = (decide (w ≤ j) && decide (j < 8))) → x4 = nI w + (-1) →
      wX_rank_33 post (nI a) (w + 1) (nI (mc_cn (mc_mt n ap an) (a / 2 ^ w * 2 ^ w))) x3 x4 dr (nI n) bu nd ad ap an wf wt nv nc ns kd de fi se tb va bz jF jT := by
  intro w
  induction w with
  | zero =>
    intro x3 x4 bu nd nv nc ns kd de fi se tb va bz jF jT hw hb h3 h4
    refine br_t (by rw [h4]; decide) ?_
    rw [Nat.pow_zero, Nat.div_one, Nat.mul_one]
    exact K bu nd nv nc ns kd de fi se tb va bz jF jT hb
  | succ w ih =>
    intro x3 x4 bu nd nv nc ns kd de fi se tb va bz jF jT hw hb h3 h4
    rw [pk_m1] at h4
    subst h4
    have hs := mc_set_b (by omega) h3
    have hlt : a / 2 ^ w * 2 ^ w ≤ a := Nat.div_mul_le_self _ _
    have hdec : bt (nI a) w = decide (a / 2 ^ w % 2 = 1) := by rw [mc_bn (by omega), Nat.testBit_eq_decide_div_mod_eq]
    have hy : a / 2 ^ (w + 1) * 2 ^ (w + 1) = 2 * (a / 2 ^ w / 2) * 2 ^ w := by rw [mc_half, mc_dbl]
    refine br_f (nI_pos (by omega)) (nm_e (ek_if (mc_b1_iff (by omega)) (fun hbit => ?_) (fun hbit => ?_)))
    · rw [hdec, decide_eq_true_iff] at hbit
      have hw2 : a / 2 ^ w * 2 ^ w = 2 * (a / 2 ^ w / 2) * 2 ^ w + 2 ^ w := by
        rw [← mc_dbl1]
        exact congrArg (· * 2 ^ w) (by omega)
      have hT : ∀ j, w ≤ j → j < 8 → bt (nI a &&& (((1 : Int32) <<< (nI w &&& 31)) ^^^ (-1))) j = (2 * (a / 2 ^ w / 2) * 2 ^ w).testBit j := by
        intro j hj hj8
        rw [mc_not, mc_shl1 (by omega), mc_bn (by omega), Nat.testBit_mul_two_pow, decide_eq_true hj, Bool.true_and]
        by_cases e : j = w
        · subst e
          rw [Nat.sub_self, Nat.testBit_zero, decide_eq_true (show j = j from rfl), Bool.not_true, Bool.and_false]
          exact (decide_eq_false (by omega)).symm
        · rw [decide_eq_false e, Bool.not_false, Bool.and_true, show j - w = (j - w - 1) + 1 by omega, Nat.testBit_add_one, show 2 * (a / 2 ^ w / 2) / 2 = a / 2 ^ w / 2 by omega, ← mc_half, Nat.testBit_div_two_pow, show j - w - 1 + (w + 1) = j by omega]
      have hag := mc_ag_rng (n := n) (ap := ap) (an := an) (by rw [← hw2]; omega) hs hT
      refine mc_x_cax hn (mc_set_8 hs) hb (fun bu nd nv nc ns kd de fi se tb va bz jF jT hb' => nm_r (e' := nI (mc_cn (mc_mt n ap an) (a / 2 ^ w * 2 ^ w))) ?_ (nm_e (ih _ _ bu nd nv nc ns kd de fi se tb va bz jF jT (by omega) hb' hs rfl)))
      rw [hy, hw2, ← hag, nI_add, Nat.add_comm]
    · rw [hdec, decide_eq_true_iff] at hbit
      have hw2 : a / 2 ^ (w + 1) * 2 ^ (w + 1) = a / 2 ^ w * 2 ^ w := by
        rw [hy]
        exact congrArg (· * 2 ^ w) (by omega)
      rw [hw2]
      exact nm_e (ih _ _ bu nd nv nc ns kd de fi se tb va bz jF jT (by omega) hb hs rfl)
theorem mc_x_count {post : Int32 → SX → Prop} (hn : n ≤ 14) (hb : (bu = 0 ∨ (bu = 1 ∧ ∃ N, nd = nI N ∧ mc_Dg n ap an nv nc ns kd de fi se N))) (K : ∀ (bu nd : Int32) (nv nc ns kd de fi se tb va bz jF jT : Nat → Int32), (bu = 0 ∨ (bu = 1 ∧ ∃ N, nd = nI N ∧ mc_Dg n ap an nv nc ns kd de fi se N)) → post (nI (mc_cn (mc_mt n ap an) 256)) (dr, nI n, bu, nd, ad, ap, an, wf, wt, nv, nc, ns, kd, de, fi, se, tb, va, bz, jF, jT)) : wpX_count post (dr, nI n, bu, nd, ad, ap, an, wf, wt, nv, nc, ns, kd, de, fi, se, tb, va, bz, jF, jT) := by
  refine mc_x_cax hn (fun j _ => b_0 j) hb (fun bu nd nv nc ns kd de fi se tb va bz jF jT hb' => ?_)
  rw [mc_ag0]
  exact K bu nd nv nc ns kd de fi se tb va bz jF jT hb'
theorem mc_x_rank {post : Int32 → SX → Prop} {a : Nat} (hn : n ≤ 14) (ha : a ≤ 256) (hb : (bu = 0 ∨ (bu = 1 ∧ ∃ N, nd = nI N ∧ mc_Dg n ap an nv nc ns kd de fi se N))) (K : ∀ (bu nd : Int32) (nv nc ns kd de fi se tb va bz jF jT : Nat → Int32), (bu = 0 ∨ (bu = 1 ∧ ∃ N, nd = nI N ∧ mc_Dg n ap an nv nc ns kd de fi se N)) → post (nI (mc_cn (mc_mt n ap an) a)) (dr, nI n, bu, nd, ad, ap, an, wf, wt, nv, nc, ns, kd, de, fi, se, tb, va, bz, jF, jT)) : wpX_rank post (dr, nI n, bu, nd, ad, ap, an, wf, wt, nv, nc, ns, kd, de, fi, se, tb, va, bz, jF, jT) (nI a) := by
  refine br_f (nI_pos (by omega)) (br_t (nI_le (b := 256) ha (by decide)) ?_)
  by_cases e : a = 256
  · subst e
    exact br_t rfl (mc_x_count hn hb K)
  · refine br_f (fun z => e ((nI_eq (b := 256) (by omega) (by decide)).mp z)) ⟨9, ?_⟩
    have W := mc_x_rk (a := a) hn (by omega) K 8 0 7 bu nd nv nc ns kd de fi se tb va bz jF jT (Nat.le_refl _) hb (fun j => ?_) (by decide)
    · rw [Nat.div_eq_of_lt (show a < 2 ^ 8 by omega), Nat.zero_mul] at W
      exact W
    · rw [b_0]
      by_cases l : 8 ≤ j
      · rw [decide_eq_false (show ¬ j < 8 by omega), Bool.and_false]
      · rw [decide_eq_false l, Bool.false_and]
/-! model -/
theorem mc_x_mo {post : Int32 → SX → Prop} {k : Nat} (hn : n ≤ 14) (K : ∀ (q : Nat) (bu nd : Int32) (nv nc ns kd de fi se tb va bz jF jT : Nat → Int32), (bu = 0 ∨ (bu = 1 ∧ ∃ N, nd = nI N ∧ mc_Dg n ap an nv nc ns kd de fi se N)) → q < 256 → mc_cn (mc_mt n ap an) q ≤ k → k < mc_cn (mc_mt n ap an) (q + 1) → post (nI q) (dr, nI n, bu, nd, ad, ap, an, wf, wt, nv, nc, ns, kd, de, fi, se, tb, va, bz, jF, jT)) :
    ∀ (w q : Nat) (x4 x6 : Int32) (bu nd : Int32) (nv nc ns kd de fi se tb va bz jF jT : Nat → Int32), w ≤ 8 → (bu = 0 ∨ (bu = 1 ∧ ∃ N, nd = nI N ∧ mc_Dg n ap an nv nc ns kd de fi se N)) → q * 2 ^ w + 2 ^ w ≤ 256 → mc_cn (mc_mt n ap an) (q * 2 ^ w) ≤ k → k < mc_cn (mc_mt n ap an) (q * 2 ^ w + 2 ^ w) → (∀ j, bt x4 j = (decide (w ≤ j) && decide (j < 8))) → x6 = nI w + (-1) →
      wX_model_29 post (w + 1) (nI (k - mc_cn (mc_mt n ap an) (q * 2 ^ w))) x4 (nI (q * 2 ^ w)) x6 dr (nI n) bu nd ad ap an wf wt nv nc ns kd de fi se tb va bz jF jT := by
  intro w
  induction w with
  | zero =>
    intro q x4 x6 bu nd nv nc ns kd de fi se tb va bz jF jT hw hb h1 h2 h3 h4 h6
    rw [Nat.pow_zero, Nat.mul_one] at h1 h2 h3 ⊢
    exact br_t (by rw [h6]; decide) (K q bu nd nv nc ns kd de fi se tb va bz jF jT hb (by omega) h2 h3)
  | succ w ih =>
    intro q x4 x6 bu nd nv nc ns kd de fi se tb va bz jF jT hw hb h1 h2 h3 h4 h6
    rw [pk_m1] at h6
    subst h6
    have hs := mc_set_b (by omega) h4
    have hp2 : 2 ^ (w + 1) = 2 ^ w + 2 ^ w := by rw [Nat.pow_succ]; omega
    rw [mc_dbl, hp2] at h1 h3
    rw [mc_dbl] at h2 ⊢
    have hd1 := mc_dbl1 q w
    have hpos := Nat.two_pow_pos w
    have hT : ∀ j, w ≤ j → j < 8 → bt (nI (2 * q * 2 ^ w)) j = (2 * q * 2 ^ w).testBit j := fun j _ _ => mc_bn (by omega) j
    have hag := mc_ag_rng (n := n) (ap := ap) (an := an) (by omega) hs hT
    have hk := mc_cn_le (mc_mt n ap an) (2 * q * 2 ^ w + (2 ^ w + 2 ^ w))
    have hg := mc_cn_le (mc_ag n ap an (x4 ||| ((1 : Int32) <<< (nI w &&& 31))) (nI (2 * q * 2 ^ w))) 256
    refine br_f (nI_pos (by omega)) (nm_e (mc_x_cax hn (mc_set_8 hs) hb (fun bu nd nv nc ns kd de fi se tb va bz jF jT hb' => pk_lt _ _ (fun l => nm_e (ih (2 * q) _ _ bu nd nv nc ns kd de fi se tb va bz jF jT (by omega) hb' (by omega) h2 (by omega) hs rfl)) (fun l => ?_) rfl rfl (by omega) (by omega))))
    have i1 := ih (2 * q + 1) (x4 ||| ((1 : Int32) <<< (nI w &&& 31))) (nI w + (-1)) bu nd nv nc ns kd de fi se tb va bz jF jT (by omega) hb' (by omega) (by rw [hd1]; omega) (by rw [hd1, Nat.add_assoc]; exact h3) hs rfl
    refine nm_r (e' := nI (k - mc_cn (mc_mt n ap an) ((2 * q + 1) * 2 ^ w))) ?_ (nm_r (mc_or1 (by omega) (by omega)) (nm_e i1))
    rw [pk_sub l, hd1]
    exact congrArg nI (by omega)
/-! alwaysTrue, alwaysFalse -/
noncomputable def mc_pT (n : Nat) (ap an : Nat → Int32) (v : Nat) : Bool := decide (mc_cn (mc_ag n ap an ((1 : Int32) <<< (nI v &&& 31)) 0) 256 = 0)
noncomputable def mc_pF (n : Nat) (ap an : Nat → Int32) (v : Nat) : Bool := decide (mc_cn (mc_ag n ap an ((1 : Int32) <<< (nI v &&& 31)) ((1 : Int32) <<< (nI v &&& 31))) 256 = 0)
theorem mc_b8 {v : Nat} (hv : v < 8) (j : Nat) (hj : 8 ≤ j) : bt ((1 : Int32) <<< (nI v &&& 31)) j = false := by rw [mc_shl1 (by omega)]; exact decide_eq_false (by omega)
theorem mc_nz (p : Nat → Bool) : nI (mc_cn p 256) = 0 ↔ decide (mc_cn p 256 = 0) = true := by
  have h := mc_cn_le p 256
  rw [decide_eq_true_iff]
  exact nI_eq (b := 0) (by omega) (by decide)
theorem mc_x_at {post : Int32 → SX → Prop} (hn : n ≤ 14) (K : ∀ (bu nd : Int32) (nv nc ns kd de fi se tb va bz jF jT : Nat → Int32), (bu = 0 ∨ (bu = 1 ∧ ∃ N, nd = nI N ∧ mc_Dg n ap an nv nc ns kd de fi se N)) → post (mc_mask (mc_pT n ap an) 8) (dr, nI n, bu, nd, ad, ap, an, wf, wt, nv, nc, ns, kd, de, fi, se, tb, va, bz, jF, jT)) :
    ∀ (d v : Nat) (bu nd : Int32) (nv nc ns kd de fi se tb va bz jF jT : Nat → Int32), v + d = 8 → (bu = 0 ∨ (bu = 1 ∧ ∃ N, nd = nI N ∧ mc_Dg n ap an nv nc ns kd de fi se N)) → wX_alwaysTrue_16 post (d + 1) (mc_mask (mc_pT n ap an) v) (nI v) dr (nI n) bu nd ad ap an wf wt nv nc ns kd de fi se tb va bz jF jT := by
  intro d
  induction d with
  | zero =>
    intro v bu nd nv nc ns kd de fi se tb va bz jF jT hv hb
    obtain rfl : v = 8 := by omega
    exact br_t (nI_le (a := 8) (by omega) (by omega)) (K bu nd nv nc ns kd de fi se tb va bz jF jT hb)
  | succ d ih =>
    intro v bu nd nv nc ns kd de fi se tb va bz jF jT hv hb
    have e1 : mc_mask (mc_pT n ap an) (v + 1) = if mc_pT n ap an v = true then mc_mask (mc_pT n ap an) v ||| ((1 : Int32) <<< (nI v &&& 31)) else mc_mask (mc_pT n ap an) v := rfl
    refine br_f (nI_ge (b := 8) (by omega) (by omega)) (mc_x_cax hn (mc_b8 (by omega)) hb (fun bu nd nv nc ns kd de fi se tb va bz jF jT hb' => ?_))
    have i1 := ih (v + 1) bu nd nv nc ns kd de fi se tb va bz jF jT (by omega) hb'
    refine ek_if (mc_nz _) (fun h => ?_) (fun h => ?_)
    · rw [e1, if_pos (show mc_pT n ap an v = true from h)] at i1
      exact nm_e (nm_r (nI_1 v) i1)
    · rw [e1, if_neg (show ¬ mc_pT n ap an v = true from h)] at i1
      exact nm_r (nI_1 v) i1
theorem mc_x_af {post : Int32 → SX → Prop} (hn : n ≤ 14) (K : ∀ (bu nd : Int32) (nv nc ns kd de fi se tb va bz jF jT : Nat → Int32), (bu = 0 ∨ (bu = 1 ∧ ∃ N, nd = nI N ∧ mc_Dg n ap an nv nc ns kd de fi se N)) → post (mc_mask (mc_pF n ap an) 8) (dr, nI n, bu, nd, ad, ap, an, wf, wt, nv, nc, ns, kd, de, fi, se, tb, va, bz, jF, jT)) :
    ∀ (d v : Nat) (bu nd : Int32) (nv nc ns kd de fi se tb va bz jF jT : Nat → Int32), v + d = 8 → (bu = 0 ∨ (bu = 1 ∧ ∃ N, nd = nI N ∧ mc_Dg n ap an nv nc ns kd de fi se N)) → wX_alwaysFalse_16 post (d + 1) (mc_mask (mc_pF n ap an) v) (nI v) dr (nI n) bu nd ad ap an wf wt nv nc ns kd de fi se tb va bz jF jT := by
  intro d
  induction d with
  | zero =>
    intro v bu nd nv nc ns kd de fi se tb va bz jF jT hv hb
    obtain rfl : v = 8 := by omega
    exact br_t (nI_le (a := 8) (by omega) (by omega)) (K bu nd nv nc ns kd de fi se tb va bz jF jT hb)
  | succ d ih =>
    intro v bu nd nv nc ns kd de fi se tb va bz jF jT hv hb
    have e1 : mc_mask (mc_pF n ap an) (v + 1) = if mc_pF n ap an v = true then mc_mask (mc_pF n ap an) v ||| ((1 : Int32) <<< (nI v &&& 31)) else mc_mask (mc_pF n ap an) v := rfl
    refine br_f (nI_ge (b := 8) (by omega) (by omega)) (mc_x_cax hn (mc_b8 (by omega)) hb (fun bu nd nv nc ns kd de fi se tb va bz jF jT hb' => ?_))
    have i1 := ih (v + 1) bu nd nv nc ns kd de fi se tb va bz jF jT (by omega) hb'
    refine ek_if (mc_nz _) (fun h => ?_) (fun h => ?_)
    · rw [e1, if_pos (show mc_pF n ap an v = true from h)] at i1
      exact nm_e (nm_r (nI_1 v) i1)
    · rw [e1, if_neg (show ¬ mc_pF n ap an v = true from h)] at i1
      exact nm_r (nI_1 v) i1
theorem mc_one_iff {v a : Nat} {t : Int32} (hv : v < 8) (ha : a < 256) : nI a &&& ((1 : Int32) <<< (nI v &&& 31)) = t &&& ((1 : Int32) <<< (nI v &&& 31)) ↔ a.testBit v = bt t v := by
  rw [mc_ag_iff ha (mc_b8 hv)]
  constructor
  · exact fun h => h v hv (by rw [mc_shl1 (by omega)]; exact decide_eq_true rfl)
  · intro h j hj hb
    rw [mc_shl1 (by omega), decide_eq_true_iff] at hb
    rw [hb]; exact h
theorem mc_pT_iff {v : Nat} (hv : v < 8) : mc_pT n ap an v = true ↔ ∀ a, a < 256 → mc_mt n ap an a = true → a.testBit v = true := by
  unfold mc_pT
  rw [decide_eq_true_iff]
  constructor
  · intro h a ha hm
    have z := mc_cn_z h ha
    have z' : (decide (nI a &&& ((1 : Int32) <<< (nI v &&& 31)) = 0 &&& ((1 : Int32) <<< (nI v &&& 31))) && mc_mt n ap an a) = false := z
    rw [hm, Bool.and_true, decide_eq_false_iff_not, mc_one_iff hv ha, b_0] at z'
    cases e : a.testBit v
    · exact absurd e z'
    · rfl
  · intro h
    refine mc_cn_zero (fun a ha => ?_)
    show (decide (nI a &&& ((1 : Int32) <<< (nI v &&& 31)) = 0 &&& ((1 : Int32) <<< (nI v &&& 31))) && mc_mt n ap an a) = false
    cases e : mc_mt n ap an a
    · rw [Bool.and_false]
    · rw [Bool.and_true, decide_eq_false_iff_not, mc_one_iff hv ha, b_0, h a ha e]; decide
theorem mc_pF_iff {v : Nat} (hv : v < 8) : mc_pF n ap an v = true ↔ ∀ a, a < 256 → mc_mt n ap an a = true → a.testBit v = false := by
  unfold mc_pF
  have e1 : bt ((1 : Int32) <<< (nI v &&& 31)) v = true := by rw [mc_shl1 (by omega)]; exact decide_eq_true rfl
  rw [decide_eq_true_iff]
  constructor
  · intro h a ha hm
    have z := mc_cn_z h ha
    have z' : (decide (nI a &&& ((1 : Int32) <<< (nI v &&& 31)) = ((1 : Int32) <<< (nI v &&& 31)) &&& ((1 : Int32) <<< (nI v &&& 31))) && mc_mt n ap an a) = false := z
    rw [hm, Bool.and_true, decide_eq_false_iff_not, mc_one_iff hv ha, e1] at z'
    exact Bool.eq_false_iff.mpr z'
  · intro h
    refine mc_cn_zero (fun a ha => ?_)
    show (decide (nI a &&& ((1 : Int32) <<< (nI v &&& 31)) = ((1 : Int32) <<< (nI v &&& 31)) &&& ((1 : Int32) <<< (nI v &&& 31))) && mc_mt n ap an a) = false
    cases e : mc_mt n ap an a
    · rw [Bool.and_false]
    · rw [Bool.and_true, decide_eq_false_iff_not, mc_one_iff hv ha, e1, h a ha e]; decide
theorem mc_bool_iff {x y : Bool} (h : x = true ↔ y = true) : x = y := by
  cases x <;> cases y
  · rfl
  · exact absurd (h.mpr rfl) (by decide)
  · exact absurd (h.mp rfl) (by decide)
  · rfl
theorem mc_at_eq : mc_mask (mc_pT n ap an) 8 = mc_at (mc_mt n ap an) 256 := by
  apply mc_ext
  intro j
  apply mc_bool_iff
  rw [mc_mask_b _ 8 (by omega), mc_at_b _ 256 (Nat.le_refl _), mc_and_t, decide_eq_true_iff]
  constructor
  · exact fun h => ⟨h.1, (mc_pT_iff h.1).mp h.2⟩
  · exact fun h => ⟨h.1, (mc_pT_iff h.1).mpr h.2⟩
theorem mc_af_eq : mc_mask (mc_pF n ap an) 8 = 255 - mc_af (mc_mt n ap an) 256 := by
  have h8 : ∀ j, 8 ≤ j → bt (mc_af (mc_mt n ap an) 256) j = false := by
    intro j hj
    refine Bool.eq_false_iff.mpr (fun z => ?_)
    obtain ⟨a, ha, _, hb⟩ := (mc_af_b _ 256 (Nat.le_refl _) j).mp z
    rw [mc_tb8 ha hj] at hb
    exact absurd hb (by decide)
  obtain ⟨y, hy, ey⟩ := mc_small h8
  have e255 : (255 : Int32) - nI y = nI (255 - y) := pk_sub (a := 255) (by omega)
  rw [ey, e255]
  apply mc_ext
  intro j
  have hyj : y.testBit j = true ↔ ∃ a, a < 256 ∧ mc_mt n ap an a = true ∧ a.testBit j = true := by
    rw [← mc_af_b _ 256 (Nat.le_refl _) j, ey, mc_bn (by omega)]
  have et : (255 - y).testBit j = (decide (j < 8) && !y.testBit j) := by
    rw [show 255 - y = 2 ^ 8 - (y + 1) by omega]
    exact Nat.testBit_two_pow_sub_succ (show y < 2 ^ 8 by omega) j
  rw [mc_mask_b _ 8 (by omega), mc_bn (by omega), et]
  by_cases l : j < 8
  · congr 1
    apply mc_bool_iff
    rw [mc_pF_iff l, Bool.not_eq_true', Bool.eq_false_iff, Ne, hyj]
    constructor
    · rintro h ⟨a, ha, hm, hb⟩
      rw [h a ha hm] at hb; exact absurd hb (by decide)
    · intro h a ha hm
      exact Bool.eq_false_iff.mpr (fun z => h ⟨a, ha, hm, z⟩)
  · rw [decide_eq_false l, Bool.false_and, Bool.false_and]
/-! idle -/
theorem mc_x_id {post : Int32 → SX → Prop} (hn : n ≤ 14) (K : ∀ (bu nd : Int32) (nv nc ns kd de fi se tb va bz jF jT : Nat → Int32), (bu = 0 ∨ (bu = 1 ∧ ∃ N, nd = nI N ∧ mc_Dg n ap an nv nc ns kd de fi se N)) → post (mc_mask (mc_idl n ap an) 8) (dr, nI n, bu, nd, ad, ap, an, wf, wt, nv, nc, ns, kd, de, fi, se, tb, va, bz, jF, jT)) :
    ∀ (d v : Nat) (bu nd : Int32) (nv nc ns kd de fi se tb va bz jF jT : Nat → Int32), v + d = 8 → (bu = 0 ∨ (bu = 1 ∧ ∃ N, nd = nI N ∧ mc_Dg n ap an nv nc ns kd de fi se N)) → wX_idle_9 post (nI (mc_cn (mc_mt n ap an) 256)) (d + 1) (mc_mask (mc_idl n ap an) v) (nI v) dr (nI n) bu nd ad ap an wf wt nv nc ns kd de fi se tb va bz jF jT := by
  intro d
  induction d with
  | zero =>
    intro v bu nd nv nc ns kd de fi se tb va bz jF jT hv hb
    obtain rfl : v = 8 := by omega
    exact br_t (nI_le (a := 8) (by omega) (by omega)) (K bu nd nv nc ns kd de fi se tb va bz jF jT hb)
  | succ d ih =>
    intro v bu nd nv nc ns kd de fi se tb va bz jF jT hv hb
    have e1 : mc_mask (mc_idl n ap an) (v + 1) = if mc_idl n ap an v = true then mc_mask (mc_idl n ap an) v ||| ((1 : Int32) <<< (nI v &&& 31)) else mc_mask (mc_idl n ap an) v := rfl
    refine br_f (nI_ge (b := 8) (by omega) (by omega)) (mc_x_cw hn (by omega) (fun bu nd nv nc ns kd de fi se tb va bz jF jT => ?_))
    have i1 := ih (v + 1) 0 nd nv nc ns kd de fi se tb va bz jF jT (by omega) (Or.inl rfl)
    refine ek_if (mc_idl_iff (by omega)) (fun h => ?_) (fun h => ?_)
    · rw [e1, if_pos h] at i1
      exact nm_e (nm_r (nI_1 v) i1)
    · rw [e1, if_neg h] at i1
      exact nm_r (nI_1 v) i1
end
/-! leastTrue, both at once -/
section
variable {dr ct bu nd : Int32} {ad ap an wf wt nv nc ns kd de fi se tb va bz jF jT : Nat → Int32} {cl : Int32} {lt sz wg : Nat → Int32} {n : Nat}
theorem mc_lt2 (hz : ∀ k, k < 9 → bz k = nI (mc_cn (mc_sz n ap an (nI k)) 256)) (H : mc_YR n ap an lt sz) :
    ∀ d k, k + d = 9 → ∃ r : Int32, (∀ post : Int32 → SX → Prop, post r (dr, ct, bu, nd, ad, ap, an, wf, wt, nv, nc, ns, kd, de, fi, se, tb, va, bz, jF, jT) → wX_leastTrue_6 post dr ct bu nd ad ap an wf wt nv nc ns kd de fi se tb va bz jF jT (d + 1) (nI k)) ∧ (∀ post : Int32 → Prop, post r → wY_leastTrue_2 post (nI n) lt sz wg (d + 1) (nI k)) := by
  intro d
  induction d with
  | zero =>
    intro k hk
    exact ⟨-4, fun post hp => br_t (nI_lt (a := 8) (by omega) (by omega)) hp, fun post hp => br_t (nI_le (a := 9) (by omega) (by omega)) hp⟩
  | succ d ih =>
    intro k hk
    obtain ⟨r, hX, hY⟩ := ih (k + 1) (by omega)
    have n8 : ¬ (8 : Int32) < nI k := nI_nlt (a := 8) (by omega) (by decide)
    have n9 : ¬ (9 : Int32) ≤ nI k := nI_ge (b := 9) (by omega) (by decide)
    have ik : vp_in (nI k) 4608 := vp_in_nI (by omega) (by decide)
    have e : bz (nI k).toNatClampNeg = nI (mc_cn (mc_sz n ap an (nI k)) 256) := by rw [nI_clamp (by omega)]; exact hz k (by omega)
    by_cases h : nI (mc_cn (mc_sz n ap an (nI k)) 256) ≤ 0
    · exact ⟨r, fun post hp => br_f n8 (And.intro ik (br_t (by rw [e]; exact h) (nm_r (nI_1 k) (hX post hp)))), fun post hp => br_f n9 (mc_y_countSize H (br_t h (nm_r (nI_1 k) (hY post hp))))⟩
    · exact ⟨nI k, fun post hp => br_f n8 (And.intro ik (br_f (by rw [e]; exact h) hp)), fun post hp => br_f n9 (mc_y_countSize H (br_f h hp))⟩
end
end
section
/-! the relation, and what the storing calls keep -/
def mc_YI (n : Nat) (ap an : Nat → Int32) (dr : Int32) (ad wf wt lt sz wg : Nat → Int32) : Prop :=
  mc_YR n ap an lt sz ∧ (∃ d, d < 4 ∧ dr = nI d ∧ sz 14 = nI d ∧ ∀ i, i < d → ad i = lt (42 + i)) ∧ (∀ v, v < 8 → wg (2 * v) = wf v) ∧ (∀ v, v < 8 → wg (2 * v + 1) = wt v)
/-- one formula, the same draft, the same weights; the diagram, if it is there, is that of the formula -/
def i_Rel (_ : Nat) (u : SX) (v : SY) : Prop :=
  ∃ (dr : Int32) (n : Nat) (ad ap an wf wt lt sz wg : Nat → Int32), mc_XS dr n ad ap an wf wt u ∧ v = (nI n, lt, sz, wg) ∧ mc_YI n ap an dr ad wf wt lt sz wg
theorem i_up {k : Nat} {u : SX} {v : SY} (h : i_Rel k u v) : i_Rel (k + 4) u v := h
section
variable {dr ct bu nd : Int32} {ad ap an wf wt nv nc ns kd de fi se tb va bz jF jT : Nat → Int32} {n k : Nat} {lt sz wg : Nat → Int32}
theorem mc_R_in (Y : mc_YI n ap an dr ad wf wt lt sz wg) (hb : (bu = 0 ∨ (bu = 1 ∧ ∃ N, nd = nI N ∧ mc_Dg n ap an nv nc ns kd de fi se N))) : i_Rel k (dr, nI n, bu, nd, ad, ap, an, wf, wt, nv, nc, ns, kd, de, fi, se, tb, va, bz, jF, jT) (nI n, lt, sz, wg) :=
  ⟨dr, n, ad, ap, an, wf, wt, lt, sz, wg, mc_XS_mk hb, rfl, Y⟩
end
theorem mc_R_el {P : SX → SY → Prop} {k : Nat} {u : SX} {v : SY} (h : ∀ (dr : Int32) (n : Nat) (ad ap an wf wt lt sz wg : Nat → Int32) (bu nd : Int32) (nv nc ns kd de fi se tb va bz jF jT : Nat → Int32), mc_YI n ap an dr ad wf wt lt sz wg → (bu = 0 ∨ (bu = 1 ∧ ∃ N, nd = nI N ∧ mc_Dg n ap an nv nc ns kd de fi se N)) → P (dr, nI n, bu, nd, ad, ap, an, wf, wt, nv, nc, ns, kd, de, fi, se, tb, va, bz, jF, jT) (nI n, lt, sz, wg)) (I : i_Rel k u v) : P u v := by
  obtain ⟨dr, n, ad, ap, an, wf, wt, lt, sz, wg, HX, rfl, Y⟩ := I
  exact mc_XS_el (P := fun u => P u (nI n, lt, sz, wg)) (fun bu nd nv nc ns kd de fi se tb va bz jF jT hb => h dr n ad ap an wf wt lt sz wg bu nd nv nc ns kd de fi se tb va bz jF jT Y hb) HX
theorem mc_rngd_u {b k l : Nat} {f : Nat → Int32} (h : mc_rngd b f) (hl : l < b) : mc_rngd b (upd f k (nI l)) := by
  intro j
  by_cases e : j = k
  · rw [e, pk_us]; exact ⟨l, hl, rfl⟩
  · rw [pk_un e]; exact h j
theorem mc_L_u {f : Nat → Int32} {k j : Nat} {x : Int32} (h : j ≠ k) : mc_L (upd f k x) j = mc_L f j := by unfold mc_L; rw [pk_un h]
theorem mc_L_s {f : Nat → Int32} {k l : Nat} (h : l < 2 ^ 31) : mc_L (upd f k (nI l)) k = l := by unfold mc_L; rw [pk_us, nI_clamp h]
theorem mc_CR_c {P N : Int32} {lt lt' : Nat → Int32} {b b' s : Nat} (h : ∀ i, i < s → mc_L lt' (b' + i) = mc_L lt (b + i)) (H : mc_CR P N lt b s) : mc_CR P N lt' b' s := by
  refine ⟨fun v => (H.1 v).trans ⟨fun ⟨i, hi, e⟩ => ⟨i, hi, (h i hi).trans e⟩, fun ⟨i, hi, e⟩ => ⟨i, hi, (h i hi).symm.trans e⟩⟩, fun v => (H.2 v).trans ⟨fun ⟨i, hi, e⟩ => ⟨i, hi, (h i hi).trans e⟩, fun ⟨i, hi, e⟩ => ⟨i, hi, (h i hi).symm.trans e⟩⟩⟩
theorem mc_CR_0 {lt : Nat → Int32} {b : Nat} : mc_CR 0 0 lt b 0 := by
  refine ⟨fun v => ?_, fun v => ?_⟩ <;> rw [b_0] <;> exact ⟨fun z => absurd z (by decide), fun ⟨i, hi, _⟩ => absurd hi (by omega)⟩
theorem mc_CR_p {P N : Int32} {lt : Nat → Int32} {b i : Nat} (H : mc_CR P N lt b i) (h16 : mc_L lt (b + i) < 16) (h : mc_L lt (b + i) % 2 = 0) : mc_CR (P ||| ((1 : Int32) <<< (nI (mc_L lt (b + i) / 2) &&& 31))) N lt b (i + 1) := by
  refine ⟨fun v => ?_, fun v => ?_⟩
  · rw [b_or, mc_or_t, mc_shl1 (by omega), decide_eq_true_iff, H.1 v]
    constructor
    · rintro (⟨j, hj, e⟩ | e)
      · exact ⟨j, by omega, e⟩
      · exact ⟨i, by omega, by omega⟩
    · rintro ⟨j, hj, e⟩
      by_cases z : j = i
      · subst z; exact Or.inr (by omega)
      · exact Or.inl ⟨j, by omega, e⟩
  · rw [H.2 v]
    constructor
    · rintro ⟨j, hj, e⟩; exact ⟨j, by omega, e⟩
    · rintro ⟨j, hj, e⟩
      by_cases z : j = i
      · subst z; omega
      · exact ⟨j, by omega, e⟩
theorem mc_CR_n {P N : Int32} {lt : Nat → Int32} {b i : Nat} (H : mc_CR P N lt b i) (h16 : mc_L lt (b + i) < 16) (h : ¬ mc_L lt (b + i) % 2 = 0) : mc_CR P (N ||| ((1 : Int32) <<< (nI (mc_L lt (b + i) / 2) &&& 31))) lt b (i + 1) := by
  refine ⟨fun v => ?_, fun v => ?_⟩
  · rw [H.1 v]
    constructor
    · rintro ⟨j, hj, e⟩; exact ⟨j, by omega, e⟩
    · rintro ⟨j, hj, e⟩
      by_cases z : j = i
      · subst z; omega
      · exact ⟨j, by omega, e⟩
  · rw [b_or, mc_or_t, mc_shl1 (by omega), decide_eq_true_iff, H.2 v]
    constructor
    · rintro (⟨j, hj, e⟩ | e)
      · exact ⟨j, by omega, e⟩
      · exact ⟨i, by omega, by omega⟩
    · rintro ⟨j, hj, e⟩
      by_cases z : j = i
      · subst z; exact Or.inr (by omega)
      · exact Or.inl ⟨j, by omega, e⟩
/-! clause: the component -/
section
variable {dr ct bu nd : Int32} {ad ap an wf wt nv nc ns kd de fi se tb va bz jF jT : Nat → Int32} {n : Nat}
theorem mc_x_c34 {post : Int32 → SX → Prop} {lt : Nat → Int32} {d : Nat} (hn : n < 14) (hd : d < 4) (hl : mc_rngd 16 lt) (had : ∀ i, i < d → ad i = lt (42 + i))
    (K : ∀ ap' an' : Nat → Int32, (∀ j, j ≠ n → ap' j = ap j) → (∀ j, j ≠ n → an' j = an j) → mc_CR (ap' n) (an' n) lt 42 d → post (nI n) (0, nI (n + 1), 0, nd, ad, ap', an', wf, wt, nv, nc, ns, kd, de, fi, se, tb, va, bz, jF, jT)) :
    ∀ (e i : Nat) (ap' an' : Nat → Int32), i + e = d → (∀ j, j ≠ n → ap' j = ap j) → (∀ j, j ≠ n → an' j = an j) → mc_CR (ap' n) (an' n) lt 42 i → wX_clause_34 post (nI d) (nI n) bu nd (e + 1) (nI i) ad ap' an' wf wt nv nc ns kd de fi se tb va bz jF jT := by
  intro e
  induction e with
  | zero =>
    intro i ap' an' hi h1 h2 h3
    obtain rfl : i = d := by omega
    refine br_t (nI_le (by omega) (by omega)) (nm_r (nI_1 n) ?_)
    rw [nI_pred]
    exact K ap' an' h1 h2 h3
  | succ e ih =>
    intro i ap' an' hi h1 h2 h3
    have ii : vp_in (nI i) 3 := vp_in_nI (by omega) (by decide)
    have iN : vp_in (nI n) 14 := vp_in_nI hn (by decide)
    obtain ⟨l16, el⟩ := mc_L_of hl (by decide) (42 + i)
    have e1 : ad i = nI (mc_L lt (42 + i)) := (had i (by omega)).trans el
    have e2 : nI (mc_L lt (42 + i)) &&& 1 = nI (mc_L lt (42 + i) % 2) := pk_andN (m := 1) (by omega) 1 (by decide)
    have e3 : nI (mc_L lt (42 + i)) >>> ((1 : Int32) &&& 31) = nI (mc_L lt (42 + i) / 2) := pk_shrN (by omega) _ 1 (by decide)
    refine br_f (nI_ge (by omega) (by omega)) (And.intro ii ?_)
    rw [nI_clamp (show i < 2 ^ 31 by omega), nI_clamp (show n < 2 ^ 31 by omega), e1, e2, e3]
    refine ek_if (nI_eq (b := 0) (by omega) (by decide)) (fun h => And.intro iN (And.intro ii (And.intro iN (nm_e (nm_r (nI_1 i) (ih (i + 1) _ an' (by omega) (fun j hj => (pk_un hj).trans (h1 j hj)) h2 ?_)))))) (fun h => And.intro iN (And.intro ii (And.intro iN (nm_e (nm_r (nI_1 i) (ih (i + 1) ap' _ (by omega) h1 (fun j hj => (pk_un hj).trans (h2 j hj)) ?_))))))
    · rw [pk_us]; exact mc_CR_p h3 l16 h
    · rw [pk_us]; exact mc_CR_n h3 l16 h
theorem mc_x_clause {post : Int32 → SX → Prop} {lt : Nat → Int32} {d : Nat} (hn : n < 14) (hd : d < 4) (hl : mc_rngd 16 lt) (had : ∀ i, i < d → ad i = lt (42 + i))
    (K : ∀ ap' an' : Nat → Int32, (∀ j, j ≠ n → ap' j = ap j) → (∀ j, j ≠ n → an' j = an j) → mc_CR (ap' n) (an' n) lt 42 d → post (nI n) (0, nI (n + 1), 0, nd, ad, ap', an', wf, wt, nv, nc, ns, kd, de, fi, se, tb, va, bz, jF, jT)) : wpX_clause post (nI d, nI n, bu, nd, ad, ap, an, wf, wt, nv, nc, ns, kd, de, fi, se, tb, va, bz, jF, jT) := by
  have iN : vp_in (nI n) 14 := vp_in_nI hn (by decide)
  have cN : (nI n).toNatClampNeg = n := nI_clamp (by omega)
  refine br_f (fun z => ?_) (And.intro iN (nm_r (e' := upd ap n 0) (by rw [cN]) (And.intro iN (nm_r (e' := upd an n 0) (by rw [cN]) ⟨_, mc_x_c34 hn hd hl had K d 0 _ _ (by omega) (fun j hj => pk_un hj) (fun j hj => pk_un hj) ?_⟩))))
  · have := (nI_eq (b := 14) (by omega) (by decide)).mp z
    omega
  · rw [pk_us, pk_us]; exact mc_CR_0
end
/-! clause: the reference -/
def mc_cp (lt : Nat → Int32) (n i : Nat) : Nat → Int32 := fun j => if 3 * n ≤ j ∧ j < 3 * n + i then lt (42 + (j - 3 * n)) else lt j
theorem mc_cp_in {lt : Nat → Int32} {n i j : Nat} (h : j < i) : mc_cp lt n i (3 * n + j) = lt (42 + j) := by
  show (if 3 * n ≤ 3 * n + j ∧ 3 * n + j < 3 * n + i then lt (42 + (3 * n + j - 3 * n)) else lt (3 * n + j)) = _
  rw [if_pos (by omega), Nat.add_sub_cancel_left]
theorem mc_cp_out {lt : Nat → Int32} {n i j : Nat} (h : ¬ (3 * n ≤ j ∧ j < 3 * n + i)) : mc_cp lt n i j = lt j := if_neg h
theorem mc_cp_u {lt : Nat → Int32} {n i : Nat} : upd (mc_cp lt n i) (3 * n + i) (lt (42 + i)) = mc_cp lt n (i + 1) := by
  funext j
  by_cases e : j = 3 * n + i
  · subst e
    rw [pk_us, mc_cp_in (by omega)]
  · rw [pk_un e]
    by_cases l : 3 * n ≤ j ∧ j < 3 * n + i
    · obtain ⟨m, rfl⟩ : ∃ m, j = 3 * n + m := ⟨j - 3 * n, by omega⟩
      rw [mc_cp_in (by omega), mc_cp_in (by omega)]
    · rw [mc_cp_out l, mc_cp_out (by omega)]
theorem mc_y_c14 {post : Int32 → SY → Prop} {lt sz wg : Nat → Int32} {n d : Nat} (hn : n < 14) (hd : d < 4) (es : sz 14 = nI d) (K : post (nI n) (nI (n + 1), mc_cp lt n d, upd (upd sz n (nI d)) 14 0, wg)) :
    ∀ e i, i + e = d → wY_clause_14 post (nI n) (e + 1) (nI i) (mc_cp lt n i) sz wg := by
  intro e
  induction e with
  | zero =>
    intro i hi
    obtain rfl : i = d := by omega
    refine br_t (by rw [es]; exact nI_le (by omega) (by omega)) (And.intro (vp_in_nI (by omega) (by decide)) (nm_r (e' := upd sz n (nI i)) (by rw [es, nI_clamp (by omega)]) (nm_e (nm_r (nI_1 n) ?_))))
    rw [nI_pred]
    exact K
  | succ e ih =>
    intro i hi
    have e1 : (42 : Int32) + nI i = nI (42 + i) := by rw [show (42 : Int32) = nI 42 from rfl, nI_add]
    have e2 : ((3 : Int32) * nI n) + nI i = nI (3 * n + i) := by rw [show (3 : Int32) = nI 3 from rfl, pk_mul, nI_add]
    have i1 : vp_in (nI (42 + i)) 45 := vp_in_nI (by omega) (by decide)
    have i2 : vp_in (nI (3 * n + i)) 45 := vp_in_nI (by omega) (by decide)
    refine br_f (by rw [es]; exact nI_ge (by omega) (by omega)) ?_
    rw [e1, e2, nI_clamp (show 42 + i < 2 ^ 31 by omega), nI_clamp (show 3 * n + i < 2 ^ 31 by omega), mc_cp_out (show ¬ (3 * n ≤ 42 + i ∧ 42 + i < 3 * n + i) by omega), mc_cp_u]
    exact And.intro i1 (And.intro i2 (nm_e (nm_r (nI_1 i) (ih (i + 1) (by omega)))))
theorem mc_y_clause {post : Int32 → SY → Prop} {lt sz wg : Nat → Int32} {n d : Nat} (hn : n < 14) (hd : d < 4) (es : sz 14 = nI d) (K : post (nI n) (nI (n + 1), mc_cp lt n d, upd (upd sz n (nI d)) 14 0, wg)) : wpY_clause post (nI n, lt, sz, wg) := by
  refine br_f (fun z => ?_) ⟨d + 1, ?_⟩
  · have := (nI_eq (b := 14) (by omega) (by decide)).mp z
    omega
  · have W := mc_y_c14 (lt := lt) hn hd es K d 0 (by omega)
    have z : mc_cp lt n 0 = lt := funext (fun j => mc_cp_out (by omega))
    rw [z] at W
    exact W
theorem mc_YR_clause {n d : Nat} {ap an ap' an' lt sz : Nat → Int32} (H : mc_YR n ap an lt sz) (hn : n < 14) (hd : d < 4) (h1 : ∀ j, j ≠ n → ap' j = ap j) (h2 : ∀ j, j ≠ n → an' j = an j) (h3 : mc_CR (ap' n) (an' n) lt 42 d) :
    mc_YR (n + 1) ap' an' (mc_cp lt n d) (upd (upd sz n (nI d)) 14 0) := by
  obtain ⟨_, hl, hs, hC⟩ := H
  refine ⟨by omega, fun j => ?_, mc_rngd_u (l := 0) (mc_rngd_u hs hd) (by omega), fun c hc => ?_⟩
  · by_cases l : 3 * n ≤ j ∧ j < 3 * n + d
    · obtain ⟨m, rfl⟩ : ∃ m, j = 3 * n + m := ⟨j - 3 * n, by omega⟩
      rw [mc_cp_in (by omega)]; exact hl _
    · rw [mc_cp_out l]; exact hl _
  · by_cases e : c = n
    · subst e
      rw [mc_L_u (show c ≠ 14 by omega), mc_L_s (by omega)]
      exact mc_CR_c (fun i hi => by unfold mc_L; rw [mc_cp_in hi]) h3
    · rw [h1 c e, h2 c e, mc_L_u (show c ≠ 14 by omega), mc_L_u e]
      have s4 := (mc_L_of hs (by decide) c).1
      exact mc_CR_c (fun i hi => by unfold mc_L; rw [mc_cp_out (by omega)]) (hC c (by omega))
theorem mc_YR_less {n : Nat} {ap an lt sz : Nat → Int32} (H : mc_YR (n + 1) ap an lt sz) : mc_YR n ap an lt sz :=
  ⟨by have := H.1; omega, H.2.1, H.2.2.1, fun c hc => H.2.2.2 c (by omega)⟩
theorem mc_YR_lit {n d l s : Nat} {ap an lt sz : Nat → Int32} (H : mc_YR n ap an lt sz) (hl : l < 16) (hs : s < 4) : mc_YR n ap an (upd lt (42 + d) (nI l)) (upd sz 14 (nI s)) := by
  obtain ⟨hn, h1, h2, hC⟩ := H
  refine ⟨hn, mc_rngd_u h1 hl, mc_rngd_u h2 hs, fun c hc => ?_⟩
  have s4 := (mc_L_of h2 (by decide) c).1
  rw [mc_L_u (show c ≠ 14 by omega)]
  exact mc_CR_c (fun i hi => mc_L_u (by omega)) (hC c hc)
theorem mc_YR_sz {n s : Nat} {ap an lt sz : Nat → Int32} (H : mc_YR n ap an lt sz) (hs : s < 4) : mc_YR n ap an lt (upd sz 14 (nI s)) := by
  obtain ⟨hn, h1, h2, hC⟩ := H
  refine ⟨hn, h1, mc_rngd_u h2 hs, fun c hc => ?_⟩
  rw [mc_L_u (show c ≠ 14 by omega)]
  exact hC c hc
/-! the constructors -/
section
variable {dr ct bu nd : Int32} {ad ap an wf wt nv nc ns kd de fi se tb va bz jF jT : Nat → Int32}
theorem mc_x_i151 {post : SX → Prop} (K : ∀ wf' wt' : Nat → Int32, (∀ j, j < 8 → wf' j = 1 ∧ wt' j = 1) → post (dr, ct, bu, nd, ad, ap, an, wf', wt', nv, nc, ns, kd, de, fi, se, tb, va, bz, jF, jT)) :
    ∀ (d v : Nat) (wf wt : Nat → Int32), v + d = 8 → (∀ j, j < v → wf j = 1 ∧ wt j = 1) → wX_init_151 post dr ct bu nd (d + 1) (nI v) ad ap an wf wt nv nc ns kd de fi se tb va bz jF jT := by
  intro d
  induction d with
  | zero =>
    intro v wf wt hv h
    exact br_t (nI_le (a := 8) (by omega) (by omega)) (K wf wt (fun j hj => h j (by omega)))
  | succ d ih =>
    intro v wf wt hv h
    have cv : (nI v).toNatClampNeg = v := nI_clamp (by omega)
    have iv : vp_in (nI v) 8 := vp_in_nI (by omega) (by decide)
    refine br_f (nI_ge (b := 8) (by omega) (by omega)) (And.intro iv (nm_r (e' := upd wf v 1) (by rw [cv]) (And.intro iv (nm_r (e' := upd wt v 1) (by rw [cv]) (nm_r (nI_1 v) (ih (v + 1) _ _ (by omega) (fun j hj => ?_)))))))
    by_cases e : j = v
    · subst e; rw [pk_us, pk_us]; exact ⟨rfl, rfl⟩
    · rw [pk_un e, pk_un e]; exact h j (by omega)
end
section
variable {cl : Int32} {lt sz wg : Nat → Int32}
theorem mc_y_i30 {post : SY → Prop} (K : ∀ wg' : Nat → Int32, (∀ j, j < 16 → wg' j = 1) → post (cl, lt, sz, wg')) :
    ∀ (d v : Nat) (wg : Nat → Int32), v + d = 16 → (∀ j, j < v → wg j = 1) → wY_init_30 post cl (d + 1) (nI v) lt sz wg := by
  intro d
  induction d with
  | zero =>
    intro v wg hv h
    exact br_t (nI_le (a := 16) (by omega) (by omega)) (K wg (fun j hj => h j (by omega)))
  | succ d ih =>
    intro v wg hv h
    refine br_f (nI_ge (b := 16) (by omega) (by omega)) (And.intro (vp_in_nI (by omega) (by decide)) (nm_r (e' := upd wg v 1) (by rw [nI_clamp (by omega)]) (nm_r (nI_1 v) (ih (v + 1) _ (by omega) (fun j hj => ?_)))))
    by_cases e : j = v
    · subst e; rw [pk_us]
    · rw [pk_un e]; exact h j (by omega)
end
end
section
/-! what is owed -/
theorem i_vc0 : wpX_init (fun u => wpY_init (fun v => i_Rel 0 u v)) := by
  refine ⟨9, mc_x_i151 (fun wf' wt' hx => ⟨17, mc_y_i30 (fun wg' hy => ?_) 16 0 _ (by omega) (fun j hj => absurd hj (by omega))⟩) 8 0 _ _ (by omega) (fun j hj => absurd hj (by omega))⟩
  refine mc_R_in (n := 0) ⟨⟨by omega, fun j => ⟨0, by omega, rfl⟩, fun j => ⟨0, by omega, rfl⟩, fun c hc => absurd hc (by omega)⟩, ⟨0, by omega, rfl, rfl, fun i hi => absurd hi (by omega)⟩, fun v hv => ?_, fun v hv => ?_⟩ (Or.inl rfl)
  · rw [hy _ (by omega), (hx v hv).1]
  · rw [hy _ (by omega), (hx v hv).2]
theorem i_vc_literal {k : Nat} {u : SX} {v : SY} (I : i_Rel k u v) (hk : k + 4 ≤ 2048) (v1 : Int32) : wpX_literal (fun r u' => wpY_literal (fun r' v' => r' = r ∧ i_Rel (k + 4) u' v') v v1) u v1 := by
  refine mc_R_el (P := fun u v => wpX_literal (fun r u' => wpY_literal (fun r' v' => r' = r ∧ i_Rel (k + 4) u' v') v v1) u v1) ?_ I
  intro dr n ad ap an wf wt lt sz wg bu nd nv nc ns kd de fi se tb va bz jF jT Y hb
  have R : i_Rel (k + 4) (dr, nI n, bu, nd, ad, ap, an, wf, wt, nv, nc, ns, kd, de, fi, se, tb, va, bz, jF, jT) (nI n, lt, sz, wg) := mc_R_in Y hb
  by_cases h0 : v1 < 0
  · exact br_t h0 (br_t h0 ⟨rfl, R⟩)
  · by_cases h1 : v1 ≤ 15
    · obtain ⟨l, hl, rfl⟩ := nI_of2 (M := 15) (n := 15) (by decide) h0 h1
      obtain ⟨HY, ⟨d, hd, rfl, es, ha⟩, hF, hT⟩ := Y
      by_cases h3 : nI d = 3
      · exact br_f h0 (br_t h1 (br_t h3 (br_f h0 (br_t h1 (br_t (es.trans h3) ⟨rfl, R⟩)))))
      · have hd3 : d < 3 := by
          rcases Nat.lt_or_ge d 3 with z | z
          · exact z
          · exact absurd (show nI d = 3 by rw [show d = 3 by omega]; rfl) h3
        have e42 : (42 : Int32) + sz 14 = nI (42 + d) := by rw [es, show (42 : Int32) = nI 42 from rfl, nI_add]
        have e1 : sz 14 + 1 = nI (d + 1) := by rw [es, nI_1]
        refine br_f h0 (br_t h1 (br_f h3 (And.intro (vp_in_nI hd3 (by decide)) (nm_r (e' := upd ad d (nI l)) (by rw [nI_clamp (by omega)]) (nm_r (nI_1 d) (br_f h0 (br_t h1 (br_f (fun z => h3 (es.symm.trans z)) ?_))))))))
        rw [e42, e1, nI_clamp (show 42 + d < 2 ^ 31 by omega)]
        refine And.intro (vp_in_nI (by omega) (by decide)) (nm_e (nm_e ⟨pk_us, mc_R_in ⟨mc_YR_lit HY (by omega) (by omega), ⟨d + 1, by omega, rfl, pk_us, fun i hi => ?_⟩, hF, hT⟩ hb⟩))
        by_cases e : i = d
        · rw [e, pk_us, pk_us]
        · rw [pk_un e, pk_un (by omega)]; exact ha i (by omega)
    · exact br_f h0 (br_f h1 (br_f h0 (br_f h1 ⟨rfl, R⟩)))
theorem i_vc_scrap {k : Nat} {u : SX} {v : SY} (I : i_Rel k u v) (hk : k + 4 ≤ 2048) : wpX_scrap (fun u' => wpY_scrap (fun v' => i_Rel (k + 4) u' v') v) u := by
  refine mc_R_el (P := fun u v => wpX_scrap (fun u' => wpY_scrap (fun v' => i_Rel (k + 4) u' v') v) u) ?_ I
  intro dr n ad ap an wf wt lt sz wg bu nd nv nc ns kd de fi se tb va bz jF jT Y hb
  obtain ⟨HY, ⟨d, hd, rfl, es, ha⟩, hF, hT⟩ := Y
  exact nm_e (mc_R_in ⟨mc_YR_sz (s := 0) HY (by omega), ⟨0, by omega, rfl, pk_us, fun i hi => absurd hi (by omega)⟩, hF, hT⟩ hb)
theorem i_vc_clause {k : Nat} {u : SX} {v : SY} (I : i_Rel k u v) (hk : k + 4 ≤ 2048) : wpX_clause (fun r u' => wpY_clause (fun r' v' => r' = r ∧ i_Rel (k + 4) u' v') v) u := by
  refine mc_R_el (P := fun u v => wpX_clause (fun r u' => wpY_clause (fun r' v' => r' = r ∧ i_Rel (k + 4) u' v') v) u) ?_ I
  intro dr n ad ap an wf wt lt sz wg bu nd nv nc ns kd de fi se tb va bz jF jT Y hb
  have R : i_Rel (k + 4) (dr, nI n, bu, nd, ad, ap, an, wf, wt, nv, nc, ns, kd, de, fi, se, tb, va, bz, jF, jT) (nI n, lt, sz, wg) := mc_R_in Y hb
  obtain ⟨HY, ⟨d, hd, rfl, es, ha⟩, hF, hT⟩ := Y
  have hn := HY.1
  by_cases e : n = 14
  · subst e
    exact br_t rfl (br_t rfl ⟨rfl, R⟩)
  · refine mc_x_clause (by omega) hd HY.2.1 ha (fun ap' an' h1 h2 h3 => mc_y_clause (by omega) hd es ⟨rfl, ?_⟩)
    exact mc_R_in ⟨mc_YR_clause HY (by omega) hd h1 h2 h3, ⟨0, by omega, rfl, pk_us, fun i hi => absurd hi (by omega)⟩, hF, hT⟩ (Or.inl rfl)
theorem i_vc_unclause {k : Nat} {u : SX} {v : SY} (I : i_Rel k u v) (hk : k + 4 ≤ 2048) : wpX_unclause (fun r u' => wpY_unclause (fun r' v' => r' = r ∧ i_Rel (k + 4) u' v') v) u := by
  refine mc_R_el (P := fun u v => wpX_unclause (fun r u' => wpY_unclause (fun r' v' => r' = r ∧ i_Rel (k + 4) u' v') v) u) ?_ I
  intro dr n ad ap an wf wt lt sz wg bu nd nv nc ns kd de fi se tb va bz jF jT Y hb
  have R : i_Rel (k + 4) (dr, nI n, bu, nd, ad, ap, an, wf, wt, nv, nc, ns, kd, de, fi, se, tb, va, bz, jF, jT) (nI n, lt, sz, wg) := mc_R_in Y hb
  obtain ⟨HY, HD, hF, hT⟩ := Y
  have hn := HY.1
  cases n with
  | zero => exact br_t rfl (br_t rfl ⟨rfl, R⟩)
  | succ n =>
    exact br_f (nI_ne0 (by omega) (by omega)) (nm_r (nI_pred n) (br_f (nI_ne0 (by omega) (by omega)) (nm_r (nI_pred n) ⟨rfl, mc_R_in ⟨mc_YR_less HY, HD, hF, hT⟩ (Or.inl rfl)⟩)))
theorem i_vc_clauses {k : Nat} {u : SX} {v : SY} (I : i_Rel k u v) (hk : k + 4 ≤ 2048) : wpX_clauses (fun r => wpY_clauses (fun r' => r' = r ∧ i_Rel (k + 4) u v) v) u := by
  have I' := I
  refine mc_R_el (P := fun u' v' => wpX_clauses (fun r => wpY_clauses (fun r' => r' = r ∧ i_Rel (k + 4) u v) v') u') ?_ I
  intro dr n ad ap an wf wt lt sz wg bu nd nv nc ns kd de fi se tb va bz jF jT Y hb
  exact ⟨rfl, I'⟩
theorem i_vc_weight {k : Nat} {u : SX} {v : SY} (I : i_Rel k u v) (hk : k + 4 ≤ 2048) (v1 : Int32) (v2 : Int32) (v3 : Int32) : wpX_weight (fun r u' => wpY_weight (fun r' v' => r' = r ∧ i_Rel (k + 4) u' v') v v1 v2 v3) u v1 v2 v3 := by
  refine mc_R_el (P := fun u v => wpX_weight (fun r u' => wpY_weight (fun r' v' => r' = r ∧ i_Rel (k + 4) u' v') v v1 v2 v3) u v1 v2 v3) ?_ I
  intro dr n ad ap an wf wt lt sz wg bu nd nv nc ns kd de fi se tb va bz jF jT Y hb
  have R : i_Rel (k + 4) (dr, nI n, bu, nd, ad, ap, an, wf, wt, nv, nc, ns, kd, de, fi, se, tb, va, bz, jF, jT) (nI n, lt, sz, wg) := mc_R_in Y hb
  by_cases h0 : v1 < 0
  · exact br_t h0 (br_t h0 ⟨rfl, R⟩)
  · obtain ⟨x, hx, rfl⟩ := nI_of h0
    by_cases h1 : 8 ≤ x
    · exact br_f h0 (br_t (nI_le (a := 8) h1 hx) (br_f h0 (br_t (nI_lt (a := 7) (by omega) hx) ⟨rfl, R⟩)))
    · have c1 : ¬ (8 : Int32) ≤ nI x := nI_ge (b := 8) (by omega) (by decide)
      have c2 : ¬ (7 : Int32) < nI x := nI_nlt (a := 7) (by omega) (by decide)
      by_cases h2 : v2 < 0
      · exact br_f h0 (br_f c1 (br_t h2 (br_f h0 (br_f c2 (br_t h2 ⟨rfl, R⟩)))))
      · by_cases h3 : 1 < v2
        · exact br_f h0 (br_f c1 (br_f h2 (br_t h3 (br_f h0 (br_f c2 (br_f h2 (br_t h3 ⟨rfl, R⟩)))))))
        · by_cases h4 : v3 < 0
          · exact br_f h0 (br_f c1 (br_f h2 (br_f h3 (br_t h4 (br_f h0 (br_f c2 (br_f h2 (br_f h3 (br_t h4 ⟨rfl, R⟩)))))))))
          · by_cases h5 : v3 ≤ 9
            · obtain ⟨b, hb1, rfl⟩ := nI_of2 (M := 1) (n := 1) (by decide) h2 (Int32.not_lt.mp h3)
              obtain ⟨HY, HD, hF, hT⟩ := Y
              have cx : (nI x).toNatClampNeg = x := nI_clamp hx
              have ix : vp_in (nI x) 8 := vp_in_nI (by omega) (by decide)
              have e2 : (2 * nI x) + nI b = nI (2 * x + b) := by rw [show (2 : Int32) = nI 2 from rfl, pk_mul, nI_add]
              have i2 : vp_in (nI (2 * x + b)) 16 := vp_in_nI (by omega) (by decide)
              have c22 : (nI (2 * x + b)).toNatClampNeg = 2 * x + b := nI_clamp (by omega)
              refine br_f h0 (br_f c1 (br_f h2 (br_f h3 (br_f h4 (br_t h5 ?_)))))
              by_cases hb0 : b = 0
              · subst hb0
                refine br_t rfl (And.intro ix (br_t rfl (And.intro ix (nm_r (e' := upd wf x v3) (by rw [cx]) (br_f h0 (br_f c2 (br_f h2 (br_f h3 (br_f h4 (br_t h5 ?_))))))))))
                rw [e2, c22, cx]
                refine And.intro i2 (nm_r (hF x (by omega)) (And.intro i2 (nm_e ⟨rfl, mc_R_in ⟨HY, HD, fun v hv => ?_, fun v hv => ?_⟩ hb⟩)))
                · by_cases e : v = x
                  · rw [e]; exact pk_us.trans pk_us.symm
                  · rw [pk_un e, pk_un (by omega)]; exact hF v hv
                · rw [pk_un (by omega)]; exact hT v hv
              · obtain rfl : b = 1 := by omega
                refine br_f mc_10 (And.intro ix (br_f mc_10 (And.intro ix (nm_r (e' := upd wt x v3) (by rw [cx]) (br_f h0 (br_f c2 (br_f h2 (br_f h3 (br_f h4 (br_t h5 ?_))))))))))
                rw [e2, c22, cx]
                refine And.intro i2 (nm_r (hT x (by omega)) (And.intro i2 (nm_e ⟨rfl, mc_R_in ⟨HY, HD, fun v hv => ?_, fun v hv => ?_⟩ hb⟩)))
                · rw [pk_un (by omega)]; exact hF v hv
                · by_cases e : v = x
                  · rw [e]; exact pk_us.trans pk_us.symm
                  · rw [pk_un e, pk_un (by omega)]; exact hT v hv
            · exact br_f h0 (br_f c1 (br_f h2 (br_f h3 (br_f h4 (br_f h5 (br_f h0 (br_f c2 (br_f h2 (br_f h3 (br_f h4 (br_f h5 ⟨rfl, R⟩)))))))))))
theorem i_vc_count {k : Nat} {u : SX} {v : SY} (I : i_Rel k u v) (hk : k + 4 ≤ 2048) : wpX_count (fun r u' => wpY_count (fun r' => r' = r ∧ i_Rel (k + 4) u' v) v) u := by
  refine mc_R_el (P := fun u v => wpX_count (fun r u' => wpY_count (fun r' => r' = r ∧ i_Rel (k + 4) u' v) v) u) ?_ I
  intro dr n ad ap an wf wt lt sz wg bu nd nv nc ns kd de fi se tb va bz jF jT Y hb
  exact mc_x_count Y.1.1 hb (fun bu nd nv nc ns kd de fi se tb va bz jF jT hb' => mc_y_count Y.1 ⟨rfl, mc_R_in Y hb'⟩)
theorem i_vc_countWith {k : Nat} {u : SX} {v : SY} (I : i_Rel k u v) (hk : k + 4 ≤ 2048) (v1 : Int32) (v2 : Int32) : wpX_countWith (fun r u' => wpY_countWith (fun r' => r' = r ∧ i_Rel (k + 4) u' v) v v1 v2) u v1 v2 := by
  refine mc_R_el (P := fun u v => wpX_countWith (fun r u' => wpY_countWith (fun r' => r' = r ∧ i_Rel (k + 4) u' v) v v1 v2) u v1 v2) ?_ I
  intro dr n ad ap an wf wt lt sz wg bu nd nv nc ns kd de fi se tb va bz jF jT Y hb
  have R : i_Rel (k + 4) (dr, nI n, bu, nd, ad, ap, an, wf, wt, nv, nc, ns, kd, de, fi, se, tb, va, bz, jF, jT) (nI n, lt, sz, wg) := mc_R_in Y hb
  by_cases h0 : v1 < 0
  · exact br_t h0 (br_f mc_10 (br_t h0 ⟨rfl, R⟩))
  · by_cases h1 : v1 ≤ 255
    · have h1' : ¬ 255 < v1 := Int32.not_lt.mpr h1
      by_cases h2 : v2 < 0
      · exact br_f h0 (br_t h1 (br_t rfl (br_t h2 (br_f mc_10 (br_f h0 (br_f h1' (br_t h2 ⟨rfl, R⟩)))))))
      · by_cases h3 : v2 ≤ 255
        · obtain ⟨s, hs, rfl⟩ := nI_of2 (M := 255) (n := 255) (by decide) h0 h1
          refine br_f h0 (br_t h1 (br_t rfl (br_f h2 (br_t h3 (br_t rfl (mc_x_cax Y.1.1 (fun j hj => ?_) hb (fun bu nd nv nc ns kd de fi se tb va bz jF jT hb' => br_f h0 (br_f h1' (br_f h2 (br_t h3 ⟨_, mc_y_cw Y.1 ⟨rfl, mc_R_in Y hb'⟩ 256 0 (by omega)⟩))))))))))
          rw [mc_bn (by omega)]; exact mc_tb8 (by omega) hj
        · exact br_f h0 (br_t h1 (br_t rfl (br_f h2 (br_f h3 (br_f mc_10 (br_f h0 (br_f h1' (br_f h2 (br_f h3 ⟨rfl, R⟩)))))))))
    · have h1' : 255 < v1 := Int32.not_le.mp h1
      exact br_f h0 (br_f h1 (br_f mc_10 (br_f h0 (br_t h1' ⟨rfl, R⟩))))
theorem mc_sz_none {n : Nat} {ap an : Nat → Int32} {x : Int32} (h : x < 0 ∨ ¬ x ≤ 8) : mc_cn (mc_sz n ap an x) 256 = 0 := by
  refine mc_cn_zero (fun a ha => ?_)
  show (decide (nI (mc_pop (nI a)) = x) && mc_mt n ap an a) = false
  have hp := mc_pop_le (nI a)
  rw [decide_eq_false (fun z => ?_), Bool.false_and]
  subst z
  rcases h with h | h
  · exact nI_pos (by omega) h
  · exact h (nI_le (b := 8) hp (by decide))
theorem i_vc_countSize {k : Nat} {u : SX} {v : SY} (I : i_Rel k u v) (hk : k + 4 ≤ 2048) (v1 : Int32) : wpX_countSize (fun r u' => wpY_countSize (fun r' => r' = r ∧ i_Rel (k + 4) u' v) v v1) u v1 := by
  refine mc_R_el (P := fun u v => wpX_countSize (fun r u' => wpY_countSize (fun r' => r' = r ∧ i_Rel (k + 4) u' v) v v1) u v1) ?_ I
  intro dr n ad ap an wf wt lt sz wg bu nd nv nc ns kd de fi se tb va bz jF jT Y hb
  have R : i_Rel (k + 4) (dr, nI n, bu, nd, ad, ap, an, wf, wt, nv, nc, ns, kd, de, fi, se, tb, va, bz, jF, jT) (nI n, lt, sz, wg) := mc_R_in Y hb
  by_cases h0 : v1 < 0
  · exact br_t h0 (mc_y_countSize Y.1 ⟨by rw [mc_sz_none (Or.inl h0)]; rfl, R⟩)
  · by_cases h1 : v1 ≤ 8
    · obtain ⟨x, hx, rfl⟩ := nI_of2 (M := 8) (n := 8) (by decide) h0 h1
      exact mc_x_countSize (u := (dr, nI n, bu, nd, ad, ap, an, wf, wt, nv, nc, ns, kd, de, fi, se, tb, va, bz, jF, jT)) Y.1.1 (by omega) (mc_XS_mk hb) (fun u' hu => mc_y_countSize Y.1 ⟨rfl, dr, n, ad, ap, an, wf, wt, lt, sz, wg, hu, rfl, Y⟩)
    · exact br_f h0 (br_f h1 (mc_y_countSize Y.1 ⟨by rw [mc_sz_none (Or.inr h1)]; rfl, R⟩))
theorem i_vc_weighted {k : Nat} {u : SX} {v : SY} (I : i_Rel k u v) (hk : k + 4 ≤ 2048) : wpX_weighted (fun r u' => wpY_weighted (fun r' => r' = r ∧ i_Rel (k + 4) u' v) v) u := by
  refine mc_R_el (P := fun u v => wpX_weighted (fun r u' => wpY_weighted (fun r' => r' = r ∧ i_Rel (k + 4) u' v) v) u) ?_ I
  intro dr n ad ap an wf wt lt sz wg bu nd nv nc ns kd de fi se tb va bz jF jT Y hb
  refine mc_x_weighted (u := (dr, nI n, bu, nd, ad, ap, an, wf, wt, nv, nc, ns, kd, de, fi, se, tb, va, bz, jF, jT)) Y.1.1 (mc_XS_mk hb) (fun u' hu => ?_)
  unfold wpY_weighted
  refine mc_y_share (v := 0) (b := false) Y.1 Y.2.2.1 Y.2.2.2 (by omega) ?_
  refine mc_y_share (v := 0) (b := true) Y.1 Y.2.2.1 Y.2.2.2 (by omega) ?_
  exact ⟨mc_tot_two.symm, dr, n, ad, ap, an, wf, wt, lt, sz, wg, hu, rfl, Y⟩
theorem i_vc_share {k : Nat} {u : SX} {v : SY} (I : i_Rel k u v) (hk : k + 4 ≤ 2048) (v1 : Int32) (v2 : Int32) : wpX_share (fun r u' => wpY_share (fun r' => r' = r ∧ i_Rel (k + 4) u' v) v v1 v2) u v1 v2 := by
  refine mc_R_el (P := fun u v => wpX_share (fun r u' => wpY_share (fun r' => r' = r ∧ i_Rel (k + 4) u' v) v v1 v2) u v1 v2) ?_ I
  intro dr n ad ap an wf wt lt sz wg bu nd nv nc ns kd de fi se tb va bz jF jT Y hb
  have R : i_Rel (k + 4) (dr, nI n, bu, nd, ad, ap, an, wf, wt, nv, nc, ns, kd, de, fi, se, tb, va, bz, jF, jT) (nI n, lt, sz, wg) := mc_R_in Y hb
  by_cases h0 : v1 < 0
  · exact br_t h0 (br_t h0 ⟨rfl, R⟩)
  · obtain ⟨x, hx, rfl⟩ := nI_of h0
    by_cases h1 : 8 ≤ x
    · exact br_f h0 (br_t (nI_le (a := 8) h1 hx) (br_f h0 (br_t (nI_lt (a := 7) (by omega) hx) ⟨rfl, R⟩)))
    · have c1 : ¬ (8 : Int32) ≤ nI x := nI_ge (b := 8) (by omega) (by decide)
      have c2 : ¬ (7 : Int32) < nI x := nI_nlt (a := 7) (by omega) (by decide)
      by_cases h2 : v2 < 0
      · exact br_f h0 (br_f c1 (br_t h2 (br_f h0 (br_f c2 (br_t h2 ⟨rfl, R⟩)))))
      · by_cases h3 : v2 ≤ 1
        · obtain ⟨b, hb1, rfl⟩ := nI_of2 (M := 1) (n := 1) (by decide) h2 h3
          obtain ⟨c, ec⟩ : ∃ c : Bool, nI b = if c = true then 1 else 0 := by
            by_cases z : b = 0
            · exact ⟨false, by rw [z]; rfl⟩
            · exact ⟨true, by rw [show b = 1 by omega]; rfl⟩
          rw [ec]
          exact mc_x_share (u := (dr, nI n, bu, nd, ad, ap, an, wf, wt, nv, nc, ns, kd, de, fi, se, tb, va, bz, jF, jT)) Y.1.1 (by omega) (mc_XS_mk hb) (fun u' hu => mc_y_share Y.1 Y.2.2.1 Y.2.2.2 (by omega) ⟨rfl, dr, n, ad, ap, an, wf, wt, lt, sz, wg, hu, rfl, Y⟩)
        · exact br_f h0 (br_f c1 (br_f h2 (br_f h3 (br_f h0 (br_f c2 (br_f h2 (br_f h3 ⟨rfl, R⟩)))))))
theorem i_vc_model {k : Nat} {u : SX} {v : SY} (I : i_Rel k u v) (hk : k + 4 ≤ 2048) (v1 : Int32) : wpX_model (fun r u' => wpY_model (fun r' => r' = r ∧ i_Rel (k + 4) u' v) v v1) u v1 := by
  refine mc_R_el (P := fun u v => wpX_model (fun r u' => wpY_model (fun r' => r' = r ∧ i_Rel (k + 4) u' v) v v1) u v1) ?_ I
  intro dr n ad ap an wf wt lt sz wg bu nd nv nc ns kd de fi se tb va bz jF jT Y hb
  have hall := mc_cn_le (mc_mt n ap an) 256
  have hlt : ∀ b, b < 256 → mc_mt n ap an b = true → mc_cn (mc_mt n ap an) b < mc_cn (mc_mt n ap an) 256 := fun b hb' hm => by
    have h1 := mc_cn_t hm
    have h2 := mc_cn_mono (mc_mt n ap an) (show b + 1 ≤ 256 by omega)
    omega
  unfold wpX_model
  refine mc_x_count Y.1.1 hb (fun bu nd nv nc ns kd de fi se tb va bz jF jT hb' => ?_)
  have R : i_Rel (k + 4) (dr, nI n, bu, nd, ad, ap, an, wf, wt, nv, nc, ns, kd, de, fi, se, tb, va, bz, jF, jT) (nI n, lt, sz, wg) := mc_R_in Y hb'
  by_cases h0 : v1 < 0
  · refine br_t h0 (mc_y_model Y.1 (fun b hb2 hm e => ?_) (fun _ => ⟨rfl, R⟩))
    rw [← e] at h0
    have := hlt b hb2 hm
    exact absurd h0 (nI_pos (by omega))
  · obtain ⟨x, hx, rfl⟩ := nI_of h0
    refine br_f h0 (pk_lt x (mc_cn (mc_mt n ap an) 256) (fun l => ⟨9, ?_⟩) (fun l => mc_y_model Y.1 (fun b hb2 hm e => ?_) (fun _ => ⟨rfl, R⟩)) rfl rfl hx (by omega))
    · have W := mc_x_mo (dr := dr) (ad := ad) (wf := wf) (wt := wt) (k := x) (post := fun r u' => wpY_model (fun r' => r' = r ∧ i_Rel (k + 4) u' (nI n, lt, sz, wg)) (nI n, lt, sz, wg) (nI x)) Y.1.1 (fun q bu nd nv nc ns kd de fi se tb va bz jF jT hb2 hq q1 q2 => ?_) 8 0 0 7 bu nd nv nc ns kd de fi se tb va bz jF jT (Nat.le_refl _) hb' (by decide) (Nat.zero_le _) l (fun j => ?_) (by decide)
      · exact W
      · have hm : mc_mt n ap an q = true := by
          cases e : mc_mt n ap an q
          · have := mc_cn_f (mc_nf e); omega
          · rfl
        have hc : mc_cn (mc_mt n ap an) q = x := by have := mc_cn_t hm; omega
        refine mc_y_model Y.1 (fun b hb3 hm3 e => ⟨?_, mc_R_in Y hb2⟩) (fun z => absurd (by rw [hc]) (z q hq hm))
        have l3 := hlt b hb3 hm3
        rw [nI_eq (by omega) hx] at e
        rcases Nat.lt_trichotomy b q with z | z | z
        · have m1 := mc_cn_mono (mc_mt n ap an) (show b + 1 ≤ q by omega)
          have m2 := mc_cn_t hm3
          omega
        · rw [z]
        · have m1 := mc_cn_mono (mc_mt n ap an) (show q + 1 ≤ b by omega)
          have m2 := mc_cn_t hm
          omega
      · rw [b_0]
        by_cases l8 : 8 ≤ j
        · rw [decide_eq_false (show ¬ j < 8 by omega), Bool.and_false]
        · rw [decide_eq_false l8, Bool.false_and]
    · have l3 := hlt b hb2 hm
      rw [nI_eq (by omega) hx] at e
      omega
theorem i_vc_rank {k : Nat} {u : SX} {v : SY} (I : i_Rel k u v) (hk : k + 4 ≤ 2048) (v1 : Int32) : wpX_rank (fun r u' => wpY_rank (fun r' => r' = r ∧ i_Rel (k + 4) u' v) v v1) u v1 := by
  refine mc_R_el (P := fun u v => wpX_rank (fun r u' => wpY_rank (fun r' => r' = r ∧ i_Rel (k + 4) u' v) v v1) u v1) ?_ I
  intro dr n ad ap an wf wt lt sz wg bu nd nv nc ns kd de fi se tb va bz jF jT Y hb
  have R : i_Rel (k + 4) (dr, nI n, bu, nd, ad, ap, an, wf, wt, nv, nc, ns, kd, de, fi, se, tb, va, bz, jF, jT) (nI n, lt, sz, wg) := mc_R_in Y hb
  by_cases h0 : v1 < 0
  · exact br_t h0 (br_t h0 ⟨rfl, R⟩)
  · by_cases h1 : v1 ≤ 256
    · obtain ⟨a, ha, rfl⟩ := nI_of2 (M := 256) (n := 256) (by decide) h0 h1
      exact mc_x_rank Y.1.1 ha hb (fun bu nd nv nc ns kd de fi se tb va bz jF jT hb' => mc_y_rank Y.1 ha ⟨rfl, mc_R_in Y hb'⟩)
    · exact br_f h0 (br_f h1 (br_f h0 (br_f h1 ⟨rfl, R⟩)))
theorem i_vc_isModel {k : Nat} {u : SX} {v : SY} (I : i_Rel k u v) (hk : k + 4 ≤ 2048) (v1 : Int32) : wpX_isModel (fun r u' => wpY_isModel (fun r' => r' = r ∧ i_Rel (k + 4) u' v) v v1) u v1 := by
  refine mc_R_el (P := fun u v => wpX_isModel (fun r u' => wpY_isModel (fun r' => r' = r ∧ i_Rel (k + 4) u' v) v v1) u v1) ?_ I
  intro dr n ad ap an wf wt lt sz wg bu nd nv nc ns kd de fi se tb va bz jF jT Y hb
  have R : i_Rel (k + 4) (dr, nI n, bu, nd, ad, ap, an, wf, wt, nv, nc, ns, kd, de, fi, se, tb, va, bz, jF, jT) (nI n, lt, sz, wg) := mc_R_in Y hb
  by_cases h0 : v1 < 0
  · exact br_t h0 (br_f mc_10 (br_t h0 ⟨rfl, R⟩))
  · by_cases h1 : v1 ≤ 255
    · have h1' : ¬ 255 < v1 := Int32.not_lt.mpr h1
      obtain ⟨a, ha, rfl⟩ := nI_of2 (M := 255) (n := 255) (by decide) h0 h1
      have hs : ∀ j, bt 255 j = (decide (0 ≤ j) && decide (j < 8)) := fun j => by rw [b_255, decide_eq_true (Nat.zero_le j), Bool.true_and]
      have hag := mc_ag_rng (n := n) (ap := ap) (an := an) (s := 255) (t := nI a) (w := 0) (T := a) (by omega) hs (fun j _ _ => by rw [Nat.pow_zero, Nat.mul_one]; exact mc_bn (by omega) j)
      rw [Nat.pow_zero, Nat.mul_one] at hag
      refine br_f h0 (br_t h1 (br_t rfl (mc_x_cax Y.1.1 (fun j hj => by rw [b_255]; exact decide_eq_false (by omega)) hb (fun bu nd nv nc ns kd de fi se tb va bz jF jT hb' => ?_))))
      have R' : i_Rel (k + 4) (dr, nI n, bu, nd, ad, ap, an, wf, wt, nv, nc, ns, kd, de, fi, se, tb, va, bz, jF, jT) (nI n, lt, sz, wg) := mc_R_in Y hb'
      cases hm : mc_mt n ap an a
      · have hc := mc_cn_f (mc_nf hm)
        have e : mc_cn (mc_ag n ap an 255 (nI a)) 256 = 0 := by omega
        rw [e]
        exact br_f (by decide) (br_f h0 (br_f h1' (mc_y_mk Y.1 (by omega) (fun hx => absurd (hm.symm.trans hx) (by decide)) (fun hx => br_t rfl ⟨rfl, R'⟩))))
      · have hc := mc_cn_t hm
        have e : mc_cn (mc_ag n ap an 255 (nI a)) 256 = 1 := by omega
        rw [e]
        exact br_t rfl (br_f h0 (br_f h1' (mc_y_mk Y.1 (by omega) (fun hx => br_f mc_10 ⟨rfl, R'⟩) (fun hx => absurd (hm.symm.trans hx) (by decide)))))
    · have h1' : 255 < v1 := Int32.not_le.mp h1
      exact br_f h0 (br_f h1 (br_f mc_10 (br_f h0 (br_t h1' ⟨rfl, R⟩))))
theorem mc_c0_iff (p : Nat → Bool) : nI (mc_cn p 256) = 0 ↔ mc_cn p 256 = 0 := by
  have h := mc_cn_le p 256
  exact nI_eq (b := 0) (by omega) (by decide)
theorem i_vc_alwaysTrue {k : Nat} {u : SX} {v : SY} (I : i_Rel k u v) (hk : k + 4 ≤ 2048) : wpX_alwaysTrue (fun r u' => wpY_alwaysTrue (fun r' => r' = r ∧ i_Rel (k + 4) u' v) v) u := by
  refine mc_R_el (P := fun u v => wpX_alwaysTrue (fun r u' => wpY_alwaysTrue (fun r' => r' = r ∧ i_Rel (k + 4) u' v) v) u) ?_ I
  intro dr n ad ap an wf wt lt sz wg bu nd nv nc ns kd de fi se tb va bz jF jT Y hb
  unfold wpX_alwaysTrue
  refine mc_x_count Y.1.1 hb (fun bu nd nv nc ns kd de fi se tb va bz jF jT hb' => ?_)
  refine ek_if (mc_c0_iff _) (fun h => ?_) (fun h => ⟨9, mc_x_at Y.1.1 (fun bu nd nv nc ns kd de fi se tb va bz jF jT hb2 => ?_) 8 0 bu nd nv nc ns kd de fi se tb va bz jF jT (by omega) hb'⟩)
  · exact mc_y_alwaysTrue Y.1 (fun _ => ⟨rfl, mc_R_in Y hb'⟩) (fun z => absurd h z)
  · exact mc_y_alwaysTrue Y.1 (fun z => absurd z h) (fun _ => ⟨mc_at_eq.symm, mc_R_in Y hb2⟩)
theorem i_vc_alwaysFalse {k : Nat} {u : SX} {v : SY} (I : i_Rel k u v) (hk : k + 4 ≤ 2048) : wpX_alwaysFalse (fun r u' => wpY_alwaysFalse (fun r' => r' = r ∧ i_Rel (k + 4) u' v) v) u := by
  refine mc_R_el (P := fun u v => wpX_alwaysFalse (fun r u' => wpY_alwaysFalse (fun r' => r' = r ∧ i_Rel (k + 4) u' v) v) u) ?_ I
  intro dr n ad ap an wf wt lt sz wg bu nd nv nc ns kd de fi se tb va bz jF jT Y hb
  unfold wpX_alwaysFalse
  refine mc_x_count Y.1.1 hb (fun bu nd nv nc ns kd de fi se tb va bz jF jT hb' => ?_)
  refine ek_if (mc_c0_iff _) (fun h => ?_) (fun h => ⟨9, mc_x_af Y.1.1 (fun bu nd nv nc ns kd de fi se tb va bz jF jT hb2 => ?_) 8 0 bu nd nv nc ns kd de fi se tb va bz jF jT (by omega) hb'⟩)
  · exact mc_y_alwaysFalse Y.1 (fun _ => ⟨rfl, mc_R_in Y hb'⟩) (fun z => absurd h z)
  · exact mc_y_alwaysFalse Y.1 (fun z => absurd z h) (fun _ => ⟨mc_af_eq.symm, mc_R_in Y hb2⟩)
theorem i_vc_idle {k : Nat} {u : SX} {v : SY} (I : i_Rel k u v) (hk : k + 4 ≤ 2048) : wpX_idle (fun r u' => wpY_idle (fun r' => r' = r ∧ i_Rel (k + 4) u' v) v) u := by
  refine mc_R_el (P := fun u v => wpX_idle (fun r u' => wpY_idle (fun r' => r' = r ∧ i_Rel (k + 4) u' v) v) u) ?_ I
  intro dr n ad ap an wf wt lt sz wg bu nd nv nc ns kd de fi se tb va bz jF jT Y hb
  unfold wpX_idle
  refine mc_x_count Y.1.1 hb (fun bu nd nv nc ns kd de fi se tb va bz jF jT hb' => ?_)
  refine ⟨9, mc_x_id Y.1.1 (fun bu nd nv nc ns kd de fi se tb va bz jF jT hb2 => ?_) 8 0 bu nd nv nc ns kd de fi se tb va bz jF jT (by omega) hb'⟩
  exact mc_y_idle Y.1 ⟨rfl, mc_R_in Y hb2⟩
theorem i_vc_leastTrue {k : Nat} {u : SX} {v : SY} (I : i_Rel k u v) (hk : k + 4 ≤ 2048) : wpX_leastTrue (fun r u' => wpY_leastTrue (fun r' => r' = r ∧ i_Rel (k + 4) u' v) v) u := by
  refine mc_R_el (P := fun u v => wpX_leastTrue (fun r u' => wpY_leastTrue (fun r' => r' = r ∧ i_Rel (k + 4) u' v) v) u) ?_ I
  intro dr n ad ap an wf wt lt sz wg bu nd nv nc ns kd de fi se tb va bz jF jT Y hb
  refine mc_x_passSizes Y.1.1 hb (fun N' nv' nc' ns' kd' de' fi' se' tb' bz' hD hz => ⟨10, ?_⟩)
  obtain ⟨r, hX, hY⟩ := mc_lt2 (dr := dr) (ct := nI n) (bu := 1) (nd := nI N') (ad := ad) (ap := ap) (an := an) (wf := wf) (wt := wt) (nv := nv') (nc := nc') (ns := ns') (kd := kd') (de := de') (fi := fi') (se := se') (tb := tb') (va := va) (bz := bz') (jF := jF) (jT := jT) (wg := wg) hz Y.1 9 0 (by omega)
  exact hX _ ⟨10, hY _ ⟨rfl, mc_R_in Y (Or.inr ⟨rfl, N', rfl, hD⟩)⟩⟩
end
