section
/-! rows taken from the kit's rows to paste (PURE-ROWS, BITS): a starting text -/
theorem pk_us {f : Nat → Int32} {k : Nat} {x : Int32} : upd f k x k = x := if_pos rfl
theorem pk_un {f : Nat → Int32} {k j : Nat} {x : Int32} (h : j ≠ k) : upd f k x j = f j := if_neg h
theorem pk_sub {a b : Nat} (h : b ≤ a) : nI a - nI b = nI (a - b) := by
  obtain ⟨c, rfl⟩ : ∃ c, a = c + b := ⟨a - b, by omega⟩
  rw [← nI_add, Int32.add_sub_cancel, Nat.add_sub_cancel]
theorem pk_m1 (n : Nat) : nI (n + 1) + (-1) = nI n := by
  rw [← nI_1, Int32.add_assoc, show (1 : Int32) + (-1) = 0 from rfl, Int32.add_zero]
theorem pk_mul (a b : Nat) : nI a * nI b = nI (a * b) := (Int32.ofNat_mul a b).symm
theorem pk_div {a d : Nat} (ha : a < 2 ^ 31) (h0 : 0 < d) (hd : d < 2 ^ 31) : nI a / nI d = nI (a / d) := by
  apply Int32.toInt_inj.mp
  rw [lg_idiv_nonneg (by rw [nI_toInt ha]; omega) (by rw [nI_toInt hd]; omega), nI_toInt ha, nI_toInt hd, nI_toInt (Nat.lt_of_le_of_lt (Nat.div_le_self a d) ha)]
  first | rfl | exact (Int.natCast_ediv _ _).symm
theorem pk_rem {a d : Nat} (ha : a < 2 ^ 31) (h0 : 0 < d) (hd : d < 2 ^ 31) : nI a - nI a / nI d * nI d = nI (a % d) := by
  rw [pk_div ha h0 hd, pk_mul, pk_sub (Nat.div_mul_le_self a d)]
  exact congrArg nI (by have := Nat.div_add_mod' a d; omega)
theorem pk_sub_toInt {a b : Nat} (ha : a < 2 ^ 30) (hb : b < 2 ^ 30) : (nI a - nI b).toInt = (a : Int) - b := by
  rw [Int32.toInt_sub, nI_toInt (by omega), nI_toInt (by omega)]
  exact Int.bmod_eq_of_le (by omega) (by omega)
theorem pk_sneg {a b : Nat} (hb : b < 2 ^ 30) (h : a < b) : nI a - nI b < 0 := by
  rw [Int32.lt_iff_toInt_lt, pk_sub_toInt (by omega) hb, show (0 : Int32).toInt = 0 from by decide]
  omega
theorem pk_ix (x : Int32) {n : Nat} (hn : n < 2 ^ 31) : x < 0 ∨ nI n ≤ x ∨ ∃ j : Nat, j < n ∧ x = nI j := by
  by_cases h : x < 0
  · exact Or.inl h
  · obtain ⟨j, hj, rfl⟩ := nI_of h
    by_cases h2 : j < n
    · exact Or.inr (Or.inr ⟨j, h2, rfl⟩)
    · exact Or.inr (Or.inl (nI_le (by omega) hj))
theorem pk_le {x y : Int32} {A B : Prop} (a b : Nat) (f : a ≤ b → A) (g : b < a → B) (hx : x = nI a := by rfl) (hy : y = nI b := by rfl) (ha : a < 2 ^ 31 := by omega) (hb : b < 2 ^ 31 := by omega) : (x ≤ y → A) ∧ (¬ x ≤ y → B) := by
  subst hx hy
  rw [nI_leI ha hb]
  exact ⟨f, fun z => g (by omega)⟩
theorem pk_lt {x y : Int32} {A B : Prop} (a b : Nat) (f : a < b → A) (g : b ≤ a → B) (hx : x = nI a := by rfl) (hy : y = nI b := by rfl) (ha : a < 2 ^ 31 := by omega) (hb : b < 2 ^ 31 := by omega) : (x < y → A) ∧ (¬ x < y → B) := by
  subst hx hy
  rw [nI_ltI ha hb]
  exact ⟨f, fun z => g (by omega)⟩
theorem pk_eq {x y : Int32} {A B : Prop} (a b : Nat) (f : a = b → A) (g : a ≠ b → B) (hx : x = nI a := by rfl) (hy : y = nI b := by rfl) (ha : a < 2 ^ 31 := by omega) (hb : b < 2 ^ 31 := by omega) : (x = y → A) ∧ (¬ x = y → B) := by
  subst hx hy
  rw [nI_eq ha hb]
  exact ⟨f, g⟩
theorem pk_in {x : Int32} (n N : Nat) (h : n < N) (hx : x = nI n := by rfl) (hN : N < 2 ^ 31 := by omega) : vp_in x N := by
  subst hx
  exact vp_in_nI h hN
theorem pk_cl {x : Int32} (n : Nat) (hx : x = nI n := by rfl) (h : n < 2 ^ 31 := by omega) : x.toNatClampNeg = n := by
  subst hx
  exact nI_clamp h
theorem pk_tn {n : Nat} (h : n < 2 ^ 32) : (nI n).toBitVec.toNat = n := Nat.mod_eq_of_lt h
theorem pk_and (x : Int32) {m : Int32} (k : Nat) (hm : m.toBitVec.toNat = 2 ^ k - 1) : x &&& m = nI (x.toBitVec.toNat % 2 ^ k) := by
  apply Int32.toBitVec_inj.mp
  apply BitVec.eq_of_toNat_eq
  rw [Int32.toBitVec_and, BitVec.toNat_and, hm, Nat.and_two_pow_sub_one_eq_mod]
  show _ = (BitVec.ofNat 32 _).toNat
  rw [BitVec.toNat_ofNat]
  exact (Nat.mod_eq_of_lt (Nat.lt_of_le_of_lt (Nat.mod_le _ _) x.toBitVec.isLt)).symm
theorem pk_andN {n : Nat} (h : n < 2 ^ 32) {m : Int32} (k : Nat) (hm : m.toBitVec.toNat = 2 ^ k - 1) : nI n &&& m = nI (n % 2 ^ k) := by
  rw [pk_and _ k hm, pk_tn h]
theorem pk_andE (x : Int32) {m : Int32} (k : Nat) (hm : m.toBitVec.toNat = 2 ^ k - 1) : ∃ j : Nat, j < 2 ^ k ∧ x &&& m = nI j := ⟨_, Nat.mod_lt _ (Nat.two_pow_pos k), pk_and x k hm⟩
theorem pk_andIn (x : Int32) {m : Int32} (k : Nat) (hm : m.toBitVec.toNat = 2 ^ k - 1) (hk : k ≤ 30) : vp_in (x &&& m) (2 ^ k) := by
  obtain ⟨j, hj, e⟩ := pk_andE x k hm
  rw [e]
  exact vp_in_nI hj (Nat.lt_of_le_of_lt (Nat.pow_le_pow_right (by decide) hk) (by decide))
theorem pk_shl (a s : Int32) (k : Nat) (hs : (s.toBitVec.smod 32).toNat = k) : (a <<< s).toBitVec.toNat = a.toBitVec.toNat * 2 ^ k % 2 ^ 32 := by
  show (a.toBitVec <<< (s.toBitVec.smod 32).toNat).toNat = _
  rw [hs, BitVec.toNat_shiftLeft, Nat.shiftLeft_eq]
theorem pk_shlN {n : Nat} (s : Int32) (k : Nat) (hs : (s.toBitVec.smod 32).toNat = k) (h : n * 2 ^ k < 2 ^ 32) : nI n <<< s = nI (n * 2 ^ k) := by
  apply Int32.toBitVec_inj.mp
  apply BitVec.eq_of_toNat_eq
  have hn : n < 2 ^ 32 := Nat.lt_of_le_of_lt (Nat.le_mul_of_pos_right n (Nat.two_pow_pos k)) h
  rw [pk_shl _ _ k hs, pk_tn hn, pk_tn h, Nat.mod_eq_of_lt h]
theorem pk_shr (a s : Int32) (k : Nat) (hs : (s.toBitVec.smod 32).toNat = k) : (a >>> s).toInt = a.toInt >>> k := by
  show (a.toBitVec.sshiftRight (s.toBitVec.smod 32).toNat).toInt = _
  rw [hs, BitVec.toInt_sshiftRight]
  rfl
theorem pk_shrN {n : Nat} (h : n < 2 ^ 31) (s : Int32) (k : Nat) (hs : (s.toBitVec.smod 32).toNat = k) : nI n >>> s = nI (n / 2 ^ k) := by
  apply Int32.toInt_inj.mp
  have h2 : n / 2 ^ k ≤ n := Nat.div_le_self _ _
  rw [pk_shr _ _ k hs, nI_toInt h, nI_toInt (by omega), Int.shiftRight_eq_div_pow]
  rfl
theorem ek_if {c d A B : Prop} (e : c ↔ d) (f : d → A) (g : ¬ d → B) : (c → A) ∧ (¬ c → B) :=
  ⟨fun z => f (e.mp z), fun z => g (fun y => z (e.mpr y))⟩
theorem ek_v {α : Sort _} {P : α → Prop} {a b : α} (e : a = b) (h : P b) : P a := e ▸ h
/-! ===== Int32 by its bits: bt x i ===== -/
def bt (x : Int32) (i : Nat) : Bool := x.toBitVec.getLsbD i
theorem b_ext {x y : Int32} (h : ∀ i, i < 32 → bt x i = bt y i) : x = y := Int32.toBitVec_inj.mp (BitVec.eq_of_getLsbD_eq (fun i hi => h i hi))
theorem b_or (x y : Int32) (i : Nat) : bt (x ||| y) i = (bt x i || bt y i) := by unfold bt; rw [Int32.toBitVec_or, BitVec.getLsbD_or]
theorem b_and (x y : Int32) (i : Nat) : bt (x &&& y) i = (bt x i && bt y i) := by unfold bt; rw [Int32.toBitVec_and, BitVec.getLsbD_and]
theorem b_xor (x y : Int32) (i : Nat) : bt (x ^^^ y) i = (bt x i ^^ bt y i) := by unfold bt; rw [Int32.toBitVec_xor, BitVec.getLsbD_xor]
theorem b_big {x : Int32} {i : Nat} (h : 32 ≤ i) : bt x i = false := BitVec.getLsbD_of_ge _ _ h
theorem b_255 (i : Nat) : bt 255 i = decide (i < 8) := by
  rcases Nat.lt_or_ge i 32 with h | h
  · exact (by decide +kernel : ∀ i, i < 32 → bt 255 i = decide (i < 8)) i h
  · rw [b_big h, decide_eq_false (by omega)]
theorem b_65535 (i : Nat) : bt 65535 i = decide (i < 16) := by
  rcases Nat.lt_or_ge i 32 with h | h
  · exact (by decide +kernel : ∀ i, i < 32 → bt 65535 i = decide (i < 16)) i h
  · rw [b_big h, decide_eq_false (by omega)]
theorem b_m1 : ∀ i, i < 32 → bt (-1) i = true := by decide +kernel
theorem b_0 (i : Nat) : bt 0 i = false := BitVec.getLsbD_zero
theorem s_l : ∀ n, n < 32 → ((nI n &&& 31).toBitVec.smod 32).toNat = n := by decide +kernel
theorem s_u : ∀ n, n < 32 → (((nI n).toUInt32 &&& Int32.toUInt32 31).toBitVec % 32).toNat = n := by decide +kernel
theorem b_shl (n : Nat) (hn : n < 32) (x : Int32) {i : Nat} (hi : i < 32) : bt (x <<< (nI n &&& 31)) i = (decide (n ≤ i) && bt x (i - n)) := by
  unfold bt
  rw [Int32.toBitVec_shiftLeft]
  show (x.toBitVec <<< ((nI n &&& 31).toBitVec.smod 32).toNat).getLsbD i = _
  rw [s_l n hn, BitVec.getLsbD_shiftLeft]
  rcases Nat.lt_or_ge i n with h | h
  · simp [h, Nat.not_le.mpr h]
  · simp [hi, h, Nat.not_lt.mpr h]
theorem b_ushr (n : Nat) (hn : n < 32) (x : Int32) (i : Nat) : bt ((x.toUInt32 >>> ((nI n).toUInt32 &&& Int32.toUInt32 31)).toInt32) i = bt x (n + i) := by
  show (x.toUInt32 >>> ((nI n).toUInt32 &&& Int32.toUInt32 31)).toBitVec.getLsbD i = x.toUInt32.toBitVec.getLsbD (n + i)
  rw [UInt32.toBitVec_shiftRight]
  show (x.toUInt32.toBitVec >>> (((nI n).toUInt32 &&& Int32.toUInt32 31).toBitVec % 32).toNat).getLsbD i = _
  rw [s_u n hn, BitVec.getLsbD_ushiftRight]
theorem b_sshr (n : Nat) (hn : n < 32) (x : Int32) {i : Nat} (hi : i < 32) : bt (x >>> (nI n &&& 31)) i = if n + i < 32 then bt x (n + i) else bt x 31 := by
  unfold bt
  rw [Int32.toBitVec_shiftRight]
  show (x.toBitVec.sshiftRight ((nI n &&& 31).toBitVec.smod 32).toNat).getLsbD i = _
  rw [s_l n hn, BitVec.getLsbD_sshiftRight, BitVec.msb_eq_getLsbD_last]
  simp [hi]
theorem b_shl8 (x : Int32) {i : Nat} (hi : i < 32) : bt (x <<< ((8 : Int32) &&& 31)) i = (decide (8 ≤ i) && bt x (i - 8)) := b_shl 8 (by omega) x hi
theorem b_shl16 (x : Int32) {i : Nat} (hi : i < 32) : bt (x <<< ((16 : Int32) &&& 31)) i = (decide (16 ≤ i) && bt x (i - 16)) := b_shl 16 (by omega) x hi
theorem b_shl24 (x : Int32) {i : Nat} (hi : i < 32) : bt (x <<< ((24 : Int32) &&& 31)) i = (decide (24 ≤ i) && bt x (i - 24)) := b_shl 24 (by omega) x hi
theorem b_sshr8 (x : Int32) {i : Nat} (hi : i < 32) : bt (x >>> ((8 : Int32) &&& 31)) i = if 8 + i < 32 then bt x (8 + i) else bt x 31 := b_sshr 8 (by omega) x hi
/-! ===== a byte read unsigned ===== -/
theorem bp_b (x : Int32) : x.toInt8.toInt32 &&& 255 = x &&& 255 := by
  apply Int32.toBitVec_inj.mp
  rw [Int32.toBitVec_and, Int32.toBitVec_and, Int8.toBitVec_toInt32, Int32.toBitVec_toInt8]
  apply BitVec.eq_of_getLsbD_eq
  intro i hi
  rw [BitVec.getLsbD_and, BitVec.getLsbD_and]
  have hm : ∀ i < 32, 8 ≤ i → (255 : Int32).toBitVec.getLsbD i = false := by decide
  rcases Nat.lt_or_ge i 8 with z | z
  · rw [BitVec.getLsbD_signExtend, BitVec.getLsbD_signExtend, if_pos z, if_pos hi]
    simp only [z, hi, decide_true, Bool.true_and]
  · rw [hm i hi z]; simp
end
section
/-! counting, the abstract program, its layout -/
def ov_up (f : Nat → Nat) (k v : Nat) : Nat → Nat := fun j => if j = k then v else f j
theorem ov_ups {f : Nat → Nat} {k v : Nat} : ov_up f k v k = v := if_pos rfl
theorem ov_upn {f : Nat → Nat} {k v j : Nat} (h : j ≠ k) : ov_up f k v j = f j := if_neg h
def ov_f (f : Nat → Nat) : Nat → Int32 := fun k => nI (f k)
theorem ov_f_up (f : Nat → Nat) (k v : Nat) : upd (ov_f f) k (nI v) = ov_f (ov_up f k v) := by
  funext j
  by_cases h : j = k
  · subst h; rw [pk_us]; show _ = nI _; rw [ov_ups]
  · rw [pk_un h]; show nI _ = nI _; rw [ov_upn h]
theorem ov_at {f : Nat → Nat} {j : Nat} (h : j < 2 ^ 31) : ov_f f (nI j).toNatClampNeg = nI (f j) := by
  rw [nI_clamp h]; rfl
theorem ov_at' {f : Nat → Int32} {j : Nat} (h : j < 2 ^ 31) : f (nI j).toNatClampNeg = f j := by
  rw [nI_clamp h]

def ov_cn (P : Nat → Bool) : Nat → Nat
  | 0 => 0
  | n + 1 => ov_cn P n + (if P n = true then 1 else 0)
theorem ov_cnT {P : Nat → Bool} {n : Nat} (h : P n = true) : ov_cn P (n + 1) = ov_cn P n + 1 := by
  show ov_cn P n + (if P n = true then 1 else 0) = _
  rw [if_pos h]
theorem ov_cnF {P : Nat → Bool} {n : Nat} (h : ¬ P n = true) : ov_cn P (n + 1) = ov_cn P n := by
  show ov_cn P n + (if P n = true then 1 else 0) = _
  rw [if_neg h]; rfl
theorem ov_cn_le (P : Nat → Bool) (n : Nat) : ov_cn P n ≤ n := by
  induction n with
  | zero => exact Nat.le_refl 0
  | succ n ih =>
    by_cases h : P n = true
    · rw [ov_cnT h]; omega
    · rw [ov_cnF h]; omega
theorem ov_cn_congr {P Q : Nat → Bool} {n : Nat} (h : ∀ k, k < n → P k = Q k) : ov_cn P n = ov_cn Q n := by
  induction n with
  | zero => rfl
  | succ n ih =>
    have e := ih (fun k hk => h k (by omega))
    show ov_cn P n + (if P n = true then 1 else 0) = ov_cn Q n + (if Q n = true then 1 else 0)
    rw [e, h n (by omega)]
theorem ov_cn_mono {P : Nat → Bool} {n m : Nat} (h : n ≤ m) : ov_cn P n ≤ ov_cn P m := by
  induction m with
  | zero =>
    have e : n = 0 := by omega
    subst e; exact Nat.le_refl _
  | succ m ih =>
    by_cases e : n = m + 1
    · subst e; exact Nat.le_refl _
    · exact Nat.le_trans (ih (by omega)) (Nat.le_add_right _ _)
theorem ov_cn_lt {P : Nat → Bool} {k n : Nat} (hk : k < n) (h : P k = true) : ov_cn P k < ov_cn P n := by
  have h1 : ov_cn P (k + 1) ≤ ov_cn P n := ov_cn_mono hk
  rw [ov_cnT h] at h1
  omega
theorem ov_cn_add {P Q R : Nat → Bool} {n : Nat} (h : ∀ k, k < n → (R k = true ↔ P k = true ∨ Q k = true) ∧ ¬ (P k = true ∧ Q k = true)) : ov_cn R n = ov_cn P n + ov_cn Q n := by
  induction n with
  | zero => rfl
  | succ n ih =>
    have e := ih (fun k hk => h k (by omega))
    obtain ⟨h1, h2⟩ := h n (by omega)
    by_cases hp : P n = true
    · have hq : ¬ Q n = true := fun z => h2 ⟨hp, z⟩
      rw [ov_cnT hp, ov_cnF hq, ov_cnT (h1.mpr (Or.inl hp)), e]; omega
    · by_cases hq : Q n = true
      · rw [ov_cnF hp, ov_cnT hq, ov_cnT (h1.mpr (Or.inr hq)), e]; omega
      · rw [ov_cnF hp, ov_cnF hq, ov_cnF (fun z => (h1.mp z).elim hp hq), e]
theorem ov_cn_all {P : Nat → Bool} {n : Nat} (h : ∀ k, k < n → P k = true) : ov_cn P n = n := by
  induction n with
  | zero => rfl
  | succ n ih => rw [ov_cnT (h n (by omega)), ih (fun k hk => h k (by omega))]
theorem ov_cn_none {P : Nat → Bool} {n : Nat} (h : ∀ k, k < n → ¬ P k = true) : ov_cn P n = 0 := by
  induction n with
  | zero => rfl
  | succ n ih => rw [ov_cnF (h n (by omega)), ih (fun k hk => h k (by omega))]
theorem ov_cn_stop {P : Nat → Bool} {k n : Nat} (hk : k ≤ n) (h : ∀ j, k ≤ j → j < n → ¬ P j = true) : ov_cn P n = ov_cn P k := by
  induction n with
  | zero =>
    have e : k = 0 := by omega
    subst e; rfl
  | succ n ih =>
    by_cases e : k = n + 1
    · subst e; rfl
    · rw [ov_cnF (h n (by omega) (by omega)), ih (by omega) (fun j h1 h2 => h j h1 (by omega))]
theorem ov_cn_imp {P Q : Nat → Bool} {n : Nat} (h : ∀ k, k < n → P k = true → Q k = true) : ov_cn P n ≤ ov_cn Q n := by
  induction n with
  | zero => exact Nat.le_refl _
  | succ n ih =>
    have e := ih (fun k hk => h k (by omega))
    by_cases hp : P n = true
    · rw [ov_cnT hp, ov_cnT (h n (by omega) hp)]; omega
    · rw [ov_cnF hp]; exact Nat.le_trans e (Nat.le_add_right _ _)
theorem ov_cn_down {P : Nat → Bool} {n : Nat} (h : ∀ j k, j ≤ k → k < n → P k = true → P j = true) : ∀ j, j < n → (P j = true ↔ j < ov_cn P n) := by
  induction n with
  | zero => intro j hj; omega
  | succ n ih =>
    intro j hj
    by_cases hp : P n = true
    · rw [ov_cn_all (n := n + 1) (fun k hk => h k n (by omega) (by omega) hp)]
      exact ⟨fun _ => hj, fun _ => h j n (by omega) (by omega) hp⟩
    · rw [ov_cnF hp]
      by_cases e : j = n
      · subst e
        have := ov_cn_le P j
        exact ⟨fun z => absurd z hp, fun z => by omega⟩
      · exact ih (fun j k h1 h2 => h j k h1 (by omega)) j (by omega)
theorem ov_cn_up {P P' : Nat → Bool} {n : Nat} (h : ∀ k, k < n → P' k = P k) : ov_cn P' (n + 1) = ov_cn P n + (if P' n = true then 1 else 0) := by
  show ov_cn P' n + _ = _
  rw [ov_cn_congr h]

def ov_ex (P : Nat → Bool) : Nat → Bool
  | 0 => false
  | n + 1 => ov_ex P n || P n
theorem ov_ex_iff {P : Nat → Bool} {n : Nat} : ov_ex P n = true ↔ ∃ k, k < n ∧ P k = true := by
  induction n with
  | zero => exact ⟨fun h => (nomatch h), fun ⟨k, h, _⟩ => by omega⟩
  | succ n ih =>
    show (ov_ex P n || P n) = true ↔ _
    rw [Bool.or_eq_true, ih]
    constructor
    · intro h
      rcases h with ⟨k, h1, h2⟩ | h
      · exact ⟨k, by omega, h2⟩
      · exact ⟨n, by omega, h⟩
    · intro ⟨k, h1, h2⟩
      by_cases e : k = n
      · subst e; exact Or.inr h2
      · exact Or.inl ⟨k, by omega, h2⟩

/-! length, first, size, offset in the segment -/
def ov_ln (po : Nat → Nat) (nc p : Nat) : Nat := ov_cn (fun k => decide (po k = p)) nc
def ov_fi (po : Nat → Nat) (nc p : Nat) : Nat := ov_cn (fun k => decide (po k < p)) nc
def ov_sz (sg po : Nat → Nat) (nc s : Nat) : Nat := ov_cn (fun k => decide (sg (po k) = s)) nc
def ov_c (sg po : Nat → Nat) (nc s p : Nat) : Nat := ov_cn (fun k => decide (po k < p ∧ sg (po k) = s)) nc
def ov_Mo (po : Nat → Nat) (nc : Nat) : Prop := ∀ j k, j ≤ k → k < nc → po j ≤ po k
section
variable {sg po : Nat → Nat} {nc : Nat}
theorem ov_ln_le (p : Nat) : ov_ln po nc p ≤ nc := ov_cn_le _ _
theorem ov_fi_le (p : Nat) : ov_fi po nc p ≤ nc := ov_cn_le _ _
theorem ov_sz_le (s : Nat) : ov_sz sg po nc s ≤ nc := ov_cn_le _ _
theorem ov_c_le (s p : Nat) : ov_c sg po nc s p ≤ nc := ov_cn_le _ _
theorem ov_fi_0 : ov_fi po nc 0 = 0 := ov_cn_none (fun k _ h => by simp only [decide_eq_true_iff] at h; omega)
theorem ov_fi_s (p : Nat) : ov_fi po nc (p + 1) = ov_fi po nc p + ov_ln po nc p :=
  ov_cn_add (fun k _ => by simp only [decide_eq_true_iff]; omega)
theorem ov_fi_np {np : Nat} (h : ∀ k, k < nc → po k < np) : ov_fi po nc np = nc :=
  ov_cn_all (fun k hk => decide_eq_true (h k hk))
theorem ov_fl_le (p : Nat) : ov_fi po nc p + ov_ln po nc p ≤ nc := by
  rw [← ov_fi_s]; exact ov_fi_le _
theorem ov_fi_lt (M : ov_Mo po nc) {p k : Nat} (hk : k < nc) : po k < p ↔ k < ov_fi po nc p := by
  have h := ov_cn_down (P := fun k => decide (po k < p)) (n := nc) (fun j k h1 h2 h3 => by
    simp only [decide_eq_true_iff] at h3 ⊢
    have := M j k h1 h2
    omega) k hk
  simp only [decide_eq_true_iff] at h
  exact h
theorem ov_po_at (M : ov_Mo po nc) {p i : Nat} (h : i < ov_ln po nc p) : ov_fi po nc p + i < nc ∧ po (ov_fi po nc p + i) = p := by
  have h1 := ov_fl_le (po := po) (nc := nc) p
  have hk : ov_fi po nc p + i < nc := by omega
  have h2 := ov_fi_lt M (p := p) hk
  have h3 := ov_fi_lt M (p := p + 1) hk
  rw [ov_fi_s] at h3
  refine ⟨hk, ?_⟩
  have h4 : po (ov_fi po nc p + i) < p + 1 := h3.mpr (by omega)
  have h5 : ¬ po (ov_fi po nc p + i) < p := fun z => by have := h2.mp z; omega
  omega
theorem ov_po_of (M : ov_Mo po nc) {k : Nat} (hk : k < nc) : ov_fi po nc (po k) ≤ k ∧ k < ov_fi po nc (po k) + ov_ln po nc (po k) := by
  have h2 := ov_fi_lt M (p := po k) hk
  have h3 := ov_fi_lt M (p := po k + 1) hk
  rw [ov_fi_s] at h3
  have h4 : k < ov_fi po nc (po k) + ov_ln po nc (po k) := h3.mp (by omega)
  refine ⟨?_, h4⟩
  apply Nat.le_of_not_lt
  intro z
  have := h2.mpr z
  omega
theorem ov_po_cn (M : ov_Mo po nc) {k p : Nat} (hk : k < nc) (hp : po k = p) : k = ov_fi po nc p + ov_cn (fun j => decide (po j = p)) k ∧ ov_cn (fun j => decide (po j = p)) k < ov_ln po nc p := by
  have e1 : ov_cn (fun j => decide (po j < p + 1)) k = ov_cn (fun j => decide (po j < p)) k + ov_cn (fun j => decide (po j = p)) k :=
    ov_cn_add (fun j _ => by simp only [decide_eq_true_iff]; omega)
  have e2 : ov_cn (fun j => decide (po j < p + 1)) k = k := ov_cn_all (fun j hj => by
    have := M j k (by omega) hk
    simp only [decide_eq_true_iff]; omega)
  have e3 : ov_fi po nc p = ov_cn (fun j => decide (po j < p)) k := ov_cn_stop (by omega) (fun j h1 h2 h3 => by
    have := M k j h1 h2
    simp only [decide_eq_true_iff] at h3; omega)
  have e4 : ov_cn (fun j => decide (po j = p)) k < ov_ln po nc p := ov_cn_lt hk (decide_eq_true hp)
  exact ⟨by omega, e4⟩
theorem ov_c_0 (s : Nat) : ov_c sg po nc s 0 = 0 := ov_cn_none (fun k _ h => by simp only [decide_eq_true_iff] at h; omega)
theorem ov_c_sT {s p : Nat} (e : sg p = s) : ov_c sg po nc s (p + 1) = ov_c sg po nc s p + ov_ln po nc p := by
  refine ov_cn_add (fun k _ => ?_)
  simp only [decide_eq_true_iff]
  constructor
  · constructor
    · intro ⟨h1, h2⟩
      by_cases h : po k = p
      · exact Or.inr h
      · exact Or.inl ⟨by omega, h2⟩
    · intro h
      rcases h with ⟨h1, h2⟩ | h
      · exact ⟨by omega, h2⟩
      · exact ⟨by omega, by rw [h]; exact e⟩
  · intro ⟨⟨h1, _⟩, h2⟩
    omega
theorem ov_c_sF {s p : Nat} (e : sg p ≠ s) : ov_c sg po nc s (p + 1) = ov_c sg po nc s p := by
  refine ov_cn_congr (fun k _ => ?_)
  rw [decide_eq_decide]
  constructor
  · intro ⟨h1, h2⟩
    by_cases h : po k = p
    · rw [h] at h2; exact absurd h2 e
    · exact ⟨by omega, h2⟩
  · intro ⟨h1, h2⟩
    exact ⟨by omega, h2⟩
theorem ov_c_mono {s p q : Nat} (h : p ≤ q) : ov_c sg po nc s p ≤ ov_c sg po nc s q := by
  refine ov_cn_imp (fun k _ h1 => ?_)
  simp only [decide_eq_true_iff] at h1 ⊢
  exact ⟨by omega, h1.2⟩
theorem ov_c_np {np s : Nat} (h : ∀ k, k < nc → po k < np) : ov_c sg po nc s np = ov_sz sg po nc s := by
  refine ov_cn_congr (fun k hk => ?_)
  rw [decide_eq_decide]
  exact ⟨fun h1 => h1.2, fun h1 => ⟨h k hk, h1⟩⟩
theorem ov_c_end {np p : Nat} (h : ∀ k, k < nc → po k < np) (hp : p < np) : ov_c sg po nc (sg p) p + ov_ln po nc p ≤ ov_sz sg po nc (sg p) := by
  rw [← ov_c_sT rfl, ← ov_c_np h]
  exact ov_c_mono hp
theorem ov_c_dis {p q : Nat} (h : p < q) (e : sg p = sg q) : ov_c sg po nc (sg p) p + ov_ln po nc p ≤ ov_c sg po nc (sg q) q := by
  rw [← ov_c_sT rfl, e]
  exact ov_c_mono h
theorem ov_c_cov {s a : Nat} : ∀ n, a < ov_c sg po nc s n → ∃ p, p < n ∧ sg p = s ∧ ov_c sg po nc s p ≤ a ∧ a < ov_c sg po nc s p + ov_ln po nc p := by
  intro n
  induction n with
  | zero => intro h; rw [ov_c_0] at h; omega
  | succ n ih =>
    intro h
    by_cases h1 : a < ov_c sg po nc s n
    · obtain ⟨p, h2, h3⟩ := ih h1
      exact ⟨p, by omega, h3⟩
    · by_cases e : sg n = s
      · rw [ov_c_sT e] at h
        exact ⟨n, by omega, e, by omega, h⟩
      · rw [ov_c_sF e] at h; omega
end

/-! base and path, by fuel -/
def ov_baF (pa sz : Nat → Nat) : Nat → Nat → Nat
  | 0, _ => 0
  | n + 1, s => if s = 0 then 0 else sz (pa s) + ov_baF pa sz n (pa s)
def ov_ba (pa sz : Nat → Nat) (s : Nat) : Nat := ov_baF pa sz 8 s
def ov_onF (pa : Nat → Nat) (t : Nat) : Nat → Nat → Bool
  | 0, _ => false
  | n + 1, s => decide (s = t) || (decide (0 < s) && ov_onF pa t n (pa s))
def ov_on (pa : Nat → Nat) (s t : Nat) : Bool := ov_onF pa t 8 s
def ov_Dn (pa : Nat → Nat) (sc : Nat) : Prop := ∀ s, 0 < s → s < sc → pa s < s
section
variable {pa sz : Nat → Nat} {sc : Nat}
theorem ov_baF_0 (n : Nat) : ov_baF pa sz n 0 = 0 := by
  cases n with
  | zero => rfl
  | succ n => exact if_pos rfl
theorem ov_baF_s {n s : Nat} (h : 0 < s) : ov_baF pa sz (n + 1) s = sz (pa s) + ov_baF pa sz n (pa s) := if_neg (by omega)
theorem ov_baF_st (D : ov_Dn pa sc) : ∀ n m s, s ≤ n → s ≤ m → s < sc → ov_baF pa sz n s = ov_baF pa sz m s := by
  intro n
  induction n with
  | zero =>
    intro m s h1 h2 h3
    have e : s = 0 := by omega
    subst e
    rw [ov_baF_0, ov_baF_0]
  | succ n ih =>
    intro m s h1 h2 h3
    by_cases e : s = 0
    · subst e; rw [ov_baF_0, ov_baF_0]
    · obtain ⟨m', rfl⟩ : ∃ m', m = m' + 1 := ⟨m - 1, by omega⟩
      have := D s (by omega) h3
      rw [ov_baF_s (by omega), ov_baF_s (by omega), ih m' (pa s) (by omega) (by omega) (by omega)]
theorem ov_ba_0 : ov_ba pa sz 0 = 0 := ov_baF_0 8
theorem ov_ba_s (D : ov_Dn pa sc) (h8 : sc ≤ 8) {s : Nat} (h0 : 0 < s) (hs : s < sc) : ov_ba pa sz s = ov_ba pa sz (pa s) + sz (pa s) := by
  have := D s h0 hs
  have e : ov_ba pa sz s = sz (pa s) + ov_baF pa sz 7 (pa s) := ov_baF_s h0
  have e2 : ov_baF pa sz 7 (pa s) = ov_ba pa sz (pa s) := ov_baF_st D 7 8 (pa s) (by omega) (by omega) (by omega)
  rw [e, e2, Nat.add_comm]
theorem ov_baF_le (h : ∀ s, sz s ≤ 128) : ∀ n s, ov_baF pa sz n s ≤ n * 128 := by
  intro n
  induction n with
  | zero => intro s; exact Nat.zero_le _
  | succ n ih =>
    intro s
    by_cases e : s = 0
    · subst e; rw [ov_baF_0]; omega
    · rw [ov_baF_s (by omega)]
      have := ih (pa s)
      have := h (pa s)
      omega
theorem ov_ba_le (h : ∀ s, sz s ≤ 128) (s : Nat) : ov_ba pa sz s ≤ 1024 := ov_baF_le h 8 s
theorem ov_onF_st (D : ov_Dn pa sc) {t : Nat} : ∀ n m s, s < n → s < m → s < sc → ov_onF pa t n s = ov_onF pa t m s := by
  intro n
  induction n with
  | zero => intro m s h1; omega
  | succ n ih =>
    intro m s h1 h2 h3
    obtain ⟨m', rfl⟩ : ∃ m', m = m' + 1 := ⟨m - 1, by omega⟩
    show (decide (s = t) || (decide (0 < s) && ov_onF pa t n (pa s))) = (decide (s = t) || (decide (0 < s) && ov_onF pa t m' (pa s)))
    by_cases e : 0 < s
    · have := D s e h3
      rw [ih m' (pa s) (by omega) (by omega) (by omega)]
    · rw [decide_eq_false e, Bool.false_and, Bool.false_and]
theorem ov_on_eq (D : ov_Dn pa sc) (h8 : sc ≤ 8) {s t : Nat} (hs : s < sc) : ov_on pa s t = (decide (s = t) || (decide (0 < s) && ov_on pa (pa s) t)) := by
  show (decide (s = t) || (decide (0 < s) && ov_onF pa t 7 (pa s))) = _
  by_cases e : 0 < s
  · have := D s e hs
    rw [ov_onF_st D 7 8 (pa s) (by omega) (by omega) (by omega)]
    rfl
  · rw [decide_eq_false e, Bool.false_and, Bool.false_and]
theorem ov_on_iff (D : ov_Dn pa sc) (h8 : sc ≤ 8) {s t : Nat} (hs : s < sc) : ov_on pa s t = true ↔ s = t ∨ (0 < s ∧ ov_on pa (pa s) t = true) := by
  rw [ov_on_eq D h8 hs, Bool.or_eq_true, Bool.and_eq_true, decide_eq_true_iff, decide_eq_true_iff]
theorem ov_on_r (D : ov_Dn pa sc) (h8 : sc ≤ 8) {s : Nat} (hs : s < sc) : ov_on pa s s = true := (ov_on_iff D h8 hs).mpr (Or.inl rfl)
theorem ov_on_le (D : ov_Dn pa sc) (h8 : sc ≤ 8) {t : Nat} : ∀ n s, s ≤ n → s < sc → ov_on pa s t = true → t ≤ s := by
  intro n
  induction n with
  | zero =>
    intro s h1 h2 h
    rcases (ov_on_iff D h8 h2).mp h with e | ⟨e, _⟩
    · omega
    · omega
  | succ n ih =>
    intro s h1 h2 h
    rcases (ov_on_iff D h8 h2).mp h with e | ⟨e, h3⟩
    · omega
    · have := D s e h2
      have := ih (pa s) (by omega) (by omega) h3
      omega
theorem ov_on_t (D : ov_Dn pa sc) (h8 : sc ≤ 8) {t r : Nat} (ht : ov_on pa t r = true) : ∀ n s, s ≤ n → s < sc → ov_on pa s t = true → ov_on pa s r = true := by
  intro n
  induction n with
  | zero =>
    intro s h1 h2 h
    rcases (ov_on_iff D h8 h2).mp h with e | ⟨e, _⟩
    · rw [e]; exact ht
    · omega
  | succ n ih =>
    intro s h1 h2 h
    rcases (ov_on_iff D h8 h2).mp h with e | ⟨e, h3⟩
    · rw [e]; exact ht
    · have := D s e h2
      exact (ov_on_iff D h8 h2).mpr (Or.inr ⟨e, ih (pa s) (by omega) (by omega) h3⟩)
theorem ov_on_trans (D : ov_Dn pa sc) (h8 : sc ≤ 8) {s t r : Nat} (hs : s < sc) (h1 : ov_on pa s t = true) (h2 : ov_on pa t r = true) : ov_on pa s r = true :=
  ov_on_t D h8 h2 s s (Nat.le_refl s) hs h1
theorem ov_on_tot (D : ov_Dn pa sc) (h8 : sc ≤ 8) {t r : Nat} : ∀ n s, s ≤ n → s < sc → ov_on pa s t = true → ov_on pa s r = true → ov_on pa t r = true ∨ ov_on pa r t = true := by
  intro n
  induction n with
  | zero =>
    intro s h1 h2 h h'
    rcases (ov_on_iff D h8 h2).mp h with e | ⟨e, _⟩
    · rw [e] at h'; exact Or.inl h'
    · omega
  | succ n ih =>
    intro s h1 h2 h h'
    rcases (ov_on_iff D h8 h2).mp h with e | ⟨e, h3⟩
    · rw [e] at h'; exact Or.inl h'
    · rcases (ov_on_iff D h8 h2).mp h' with e' | ⟨_, h4⟩
      · rw [e'] at h; exact Or.inr h
      · have := D s e h2
        exact ih (pa s) (by omega) (by omega) h3 h4
theorem ov_on_ba (D : ov_Dn pa sc) (h8 : sc ≤ 8) {t : Nat} : ∀ n s, s ≤ n → s < sc → ov_on pa s t = true → s ≠ t → ov_ba pa sz t + sz t ≤ ov_ba pa sz s := by
  intro n
  induction n with
  | zero =>
    intro s h1 h2 h h'
    rcases (ov_on_iff D h8 h2).mp h with e | ⟨e, _⟩
    · exact absurd e h'
    · omega
  | succ n ih =>
    intro s h1 h2 h h'
    rcases (ov_on_iff D h8 h2).mp h with e | ⟨e, h3⟩
    · exact absurd e h'
    · have h5 := D s e h2
      rw [ov_ba_s D h8 e h2]
      by_cases e2 : pa s = t
      · rw [e2]; exact Nat.le_refl _
      · have := ih (pa s) (by omega) (by omega) h3 e2
        omega
theorem ov_on_sc (D : ov_Dn pa sc) (h8 : sc ≤ 8) {s t : Nat} (hs : s < sc) (h : ov_on pa s t = true) : t < sc := by
  have := ov_on_le D h8 s s (Nat.le_refl s) hs h
  omega
/-- what the parents above the count are doesn't matter -/
theorem ov_onF_cg {pa' : Nat → Nat} (D : ov_Dn pa sc) (h : ∀ s, s < sc → pa' s = pa s) {t : Nat} : ∀ n s, s < sc → ov_onF pa' t n s = ov_onF pa t n s := by
  intro n
  induction n with
  | zero => intro s _; rfl
  | succ n ih =>
    intro s hs
    show (decide (s = t) || (decide (0 < s) && ov_onF pa' t n (pa' s))) = (decide (s = t) || (decide (0 < s) && ov_onF pa t n (pa s)))
    by_cases e : 0 < s
    · have := D s e hs
      rw [h s hs, ih (pa s) (by omega)]
    · rw [decide_eq_false e, Bool.false_and, Bool.false_and]
end
end
section
/-! the abstract program: addresses, stubs, words; what linking checks -/
def ov_A (pa sg po : Nat → Nat) (nc m p : Nat) : Nat := if m = 0 then ov_ba pa (ov_sz sg po nc) (sg p) + ov_c sg po nc (sg p) p else ov_fi po nc p
def ov_hs (pa sg po op bn : Nat → Nat) (nc q : Nat) : Bool := ov_ex (fun k => decide (op k = 8 ∧ bn k = q ∧ ov_on pa (sg (po k)) (sg q) = false)) nc
def ov_sn (pa sg po op bn : Nat → Nat) (nc q : Nat) : Nat := ov_cn (ov_hs pa sg po op bn nc) q
def ov_W (pa sg po op aa bn : Nat → Nat) (nc m k : Nat) : Nat :=
  if op k = 7 then 458752 + aa k * 256 + (ov_A pa sg po nc m (po k) + bn k)
  else if op k = 8 then (if m = 0 ∧ ov_on pa (sg (po k)) (sg (bn k)) = false then 655360 + ov_sn pa sg po op bn nc (bn k) else 524288 + ov_A pa sg po nc m (bn k))
  else op k * 65536 + aa k * 256 + bn k
def ov_OK (o a b : Nat) : Prop := o ≤ 9 ∧ a ≤ 3 ∧ b < 256 ∧ ((o = 0 ∨ o = 9) → a = 0 ∧ b = 0) ∧ (o = 8 → a = 0 ∧ b ≤ 11) ∧ (2 ≤ o → o ≤ 6 → b ≤ 3) ∧ (o = 7 → b ≤ 127)
def ov_PG (sc np nc : Nat) (pa sg po op aa bn : Nat → Nat) : Prop :=
  (1 ≤ sc ∧ sc ≤ 8 ∧ np ≤ 12 ∧ nc ≤ 128) ∧ ov_Dn pa sc ∧ (∀ p, p < np → sg p < sc) ∧ (∀ k, k < nc → po k < np) ∧ ov_Mo po nc ∧ (∀ k, k < nc → ov_OK (op k) (aa k) (bn k))
def ov_OE (po op : Nat → Nat) (nc p : Nat) : Prop := ov_ln po nc p = 0 ∨ (op (ov_fi po nc p + (ov_ln po nc p - 1)) ≠ 9 ∧ op (ov_fi po nc p + (ov_ln po nc p - 1)) ≠ 0)
def ov_BT (po op bn : Nat → Nat) (nc k : Nat) : Prop := op k = 7 ∧ ov_ln po nc (po k) ≤ bn k
def ov_BC (op bn : Nat → Nat) (np k : Nat) : Prop := op k = 8 ∧ np ≤ bn k
def ov_WF (sc np nc RM : Nat) (pa sg po op bn : Nat → Nat) : Prop :=
  0 < np ∧ (∀ p, p < np → ¬ ov_OE po op nc p) ∧ (∀ k, k < nc → ¬ ov_BT po op bn nc k) ∧ (∀ k, k < nc → ¬ ov_BC op bn np k) ∧ (∀ s, s < sc → ov_ba pa (ov_sz sg po nc) s + ov_sz sg po nc s ≤ RM)
def ov_mx (f : Nat → Nat) : Nat → Nat
  | 0 => 0
  | n + 1 => if f n ≤ ov_mx f n then ov_mx f n else f n
theorem ov_mx_iff {f : Nat → Nat} {R : Nat} : ∀ n, ov_mx f n ≤ R ↔ ∀ s, s < n → f s ≤ R := by
  intro n
  induction n with
  | zero => exact ⟨fun _ s hs => by omega, fun _ => Nat.zero_le _⟩
  | succ n ih =>
    show (if f n ≤ ov_mx f n then ov_mx f n else f n) ≤ R ↔ _
    by_cases h : f n ≤ ov_mx f n
    · rw [if_pos h, ih]
      constructor
      · intro h1 s hs
        by_cases e : s = n
        · subst e; exact Nat.le_trans h (ih.mpr h1)
        · exact h1 s (by omega)
      · intro h1 s hs; exact h1 s (by omega)
    · rw [if_neg h]
      constructor
      · intro h1 s hs
        by_cases e : s = n
        · subst e; exact h1
        · exact ih.mp (by omega) s (by omega)
      · intro h1; exact h1 n (by omega)

section
variable {sc np nc : Nat} {pa sg po op aa bn : Nat → Nat} {RM : Nat}
theorem ov_g1 (G : ov_PG sc np nc pa sg po op aa bn) : 1 ≤ sc := G.1.1
theorem ov_g8 (G : ov_PG sc np nc pa sg po op aa bn) : sc ≤ 8 := G.1.2.1
theorem ov_g12 (G : ov_PG sc np nc pa sg po op aa bn) : np ≤ 12 := G.1.2.2.1
theorem ov_g128 (G : ov_PG sc np nc pa sg po op aa bn) : nc ≤ 128 := G.1.2.2.2
theorem ov_gD (G : ov_PG sc np nc pa sg po op aa bn) : ov_Dn pa sc := G.2.1
theorem ov_gs (G : ov_PG sc np nc pa sg po op aa bn) {p : Nat} (h : p < np) : sg p < sc := G.2.2.1 p h
theorem ov_gp (G : ov_PG sc np nc pa sg po op aa bn) {k : Nat} (h : k < nc) : po k < np := G.2.2.2.1 k h
theorem ov_gM (G : ov_PG sc np nc pa sg po op aa bn) : ov_Mo po nc := G.2.2.2.2.1
theorem ov_gO (G : ov_PG sc np nc pa sg po op aa bn) {k : Nat} (h : k < nc) : ov_OK (op k) (aa k) (bn k) := G.2.2.2.2.2 k h
theorem ov_gsz (G : ov_PG sc np nc pa sg po op aa bn) (s : Nat) : ov_sz sg po nc s ≤ 128 := Nat.le_trans (ov_sz_le s) (ov_g128 G)
theorem ov_gba (G : ov_PG sc np nc pa sg po op aa bn) (s : Nat) : ov_ba pa (ov_sz sg po nc) s ≤ 1024 := ov_ba_le (fun s => ov_gsz G s) s
theorem ov_gln (G : ov_PG sc np nc pa sg po op aa bn) (p : Nat) : ov_ln po nc p ≤ 128 := Nat.le_trans (ov_ln_le p) (ov_g128 G)
theorem ov_gfi (G : ov_PG sc np nc pa sg po op aa bn) (p : Nat) : ov_fi po nc p ≤ 128 := Nat.le_trans (ov_fi_le p) (ov_g128 G)
theorem ov_gfl (G : ov_PG sc np nc pa sg po op aa bn) (p : Nat) : ov_fi po nc p + ov_ln po nc p ≤ 128 := Nat.le_trans (ov_fl_le p) (ov_g128 G)
theorem ov_A0 (p : Nat) : ov_A pa sg po nc 0 p = ov_ba pa (ov_sz sg po nc) (sg p) + ov_c sg po nc (sg p) p := if_pos rfl
theorem ov_A1 (p : Nat) : ov_A pa sg po nc 1 p = ov_fi po nc p := if_neg (by omega)
theorem ov_gA (G : ov_PG sc np nc pa sg po op aa bn) (m p : Nat) : ov_A pa sg po nc m p ≤ 2000 := by
  unfold ov_A
  have h1 := ov_gba G (sg p)
  have h2 := ov_c_le (sg := sg) (po := po) (nc := nc) (sg p) p
  have h3 := ov_gfi G p
  have h4 := ov_g128 G
  by_cases e : m = 0
  · rw [if_pos e]; omega
  · rw [if_neg e]; omega
theorem ov_gsn (q : Nat) : ov_sn pa sg po op bn nc q ≤ q := ov_cn_le _ _
theorem ov_hs_iff {q : Nat} : ov_hs pa sg po op bn nc q = true ↔ ∃ k, k < nc ∧ op k = 8 ∧ bn k = q ∧ ov_on pa (sg (po k)) (sg q) = false := by
  unfold ov_hs
  rw [ov_ex_iff]
  simp only [decide_eq_true_iff]
theorem ov_A0e (G : ov_PG sc np nc pa sg po op aa bn) {p : Nat} (hp : p < np) : ov_A pa sg po nc 0 p + ov_ln po nc p ≤ ov_ba pa (ov_sz sg po nc) (sg p) + ov_sz sg po nc (sg p) := by
  rw [ov_A0]
  have := ov_c_end (sg := sg) (po := po) (nc := nc) G.2.2.2.1 hp
  omega
theorem ov_A0r (G : ov_PG sc np nc pa sg po op aa bn) (F : ov_WF sc np nc RM pa sg po op bn) {p : Nat} (hp : p < np) : ov_A pa sg po nc 0 p + ov_ln po nc p ≤ RM :=
  Nat.le_trans (ov_A0e G hp) (F.2.2.2.2 (sg p) (ov_gs G hp))
theorem ov_A1e (G : ov_PG sc np nc pa sg po op aa bn) (p : Nat) : ov_A pa sg po nc 1 p + ov_ln po nc p ≤ nc := by
  rw [ov_A1]; exact ov_fl_le p
theorem ov_Ae (G : ov_PG sc np nc pa sg po op aa bn) (F : ov_WF sc np nc RM pa sg po op bn) (hR : RM ≤ 64) {m p : Nat} (hm : m < 2) (hp : p < np) : ov_A pa sg po nc m p + ov_ln po nc p ≤ 128 := by
  have h1 := ov_A0r G F hp
  have h2 := ov_A1e G p
  have h3 := ov_g128 G
  rcases (by omega : m = 0 ∨ m = 1) with e | e
  · subst e; omega
  · subst e; omega
theorem ov_ln_pos (F : ov_WF sc np nc RM pa sg po op bn) {p : Nat} (hp : p < np) : 0 < ov_ln po nc p := by
  apply Nat.pos_of_ne_zero
  intro e
  exact F.2.1 p hp (Or.inl e)
theorem ov_dis (G : ov_PG sc np nc pa sg po op aa bn) {s p q : Nat} (hs : s < sc) (hp : p < np) (hq : q < np) (h1 : ov_on pa s (sg p) = true) (h2 : ov_on pa s (sg q) = true) (hne : p ≠ q) : ov_A pa sg po nc 0 p + ov_ln po nc p ≤ ov_A pa sg po nc 0 q ∨ ov_A pa sg po nc 0 q + ov_ln po nc q ≤ ov_A pa sg po nc 0 p := by
  have hp1 := ov_A0e G hp
  have hq1 := ov_A0e G hq
  by_cases e : sg p = sg q
  · rw [ov_A0, ov_A0]
    rcases Nat.lt_or_gt_of_ne hne with h | h
    · have := ov_c_dis (sg := sg) (po := po) (nc := nc) h e
      rw [e] at this ⊢
      omega
    · have := ov_c_dis (sg := sg) (po := po) (nc := nc) h e.symm
      rw [e] at this ⊢
      omega
  · rcases ov_on_tot (ov_gD G) (ov_g8 G) s s (Nat.le_refl s) hs h1 h2 with h | h
    · have := ov_on_ba (sz := ov_sz sg po nc) (ov_gD G) (ov_g8 G) (sg p) (sg p) (Nat.le_refl _) (ov_gs G hp) h e
      have e1 := ov_A0 (pa := pa) (sg := sg) (po := po) (nc := nc) p
      omega
    · have := ov_on_ba (sz := ov_sz sg po nc) (ov_gD G) (ov_g8 G) (sg q) (sg q) (Nat.le_refl _) (ov_gs G hq) h (fun z => e z.symm)
      have e1 := ov_A0 (pa := pa) (sg := sg) (po := po) (nc := nc) q
      omega
theorem ov_cov (G : ov_PG sc np nc pa sg po op aa bn) {a : Nat} : ∀ n s, s ≤ n → s < sc → a < ov_ba pa (ov_sz sg po nc) s + ov_sz sg po nc s → ∃ p, p < np ∧ ov_on pa s (sg p) = true ∧ ov_A pa sg po nc 0 p ≤ a ∧ a < ov_A pa sg po nc 0 p + ov_ln po nc p := by
  have own : ∀ s, s < sc → ov_ba pa (ov_sz sg po nc) s ≤ a → a < ov_ba pa (ov_sz sg po nc) s + ov_sz sg po nc s → ∃ p, p < np ∧ ov_on pa s (sg p) = true ∧ ov_A pa sg po nc 0 p ≤ a ∧ a < ov_A pa sg po nc 0 p + ov_ln po nc p := by
    intro s hs h1 h2
    obtain ⟨p, h3, h4, h5, h6⟩ := ov_c_cov (sg := sg) (po := po) (nc := nc) (s := s) (a := a - ov_ba pa (ov_sz sg po nc) s) np (by rw [ov_c_np G.2.2.2.1]; omega)
    refine ⟨p, h3, by rw [h4]; exact ov_on_r (ov_gD G) (ov_g8 G) hs, ?_⟩
    rw [ov_A0, h4]
    omega
  intro n
  induction n with
  | zero =>
    intro s h1 h2 h3
    have e : s = 0 := by omega
    subst e
    exact own 0 h2 (by rw [ov_ba_0]; omega) h3
  | succ n ih =>
    intro s h1 h2 h3
    by_cases e : ov_ba pa (ov_sz sg po nc) s ≤ a
    · exact own s h2 e h3
    · have h0 : 0 < s := by
        apply Nat.pos_of_ne_zero
        intro z
        subst z
        rw [ov_ba_0] at e
        omega
      have h4 := ov_gD G s h0 h2
      have h5 := ov_ba_s (sz := ov_sz sg po nc) (ov_gD G) (ov_g8 G) h0 h2
      obtain ⟨p, h6, h7, h8⟩ := ih (pa s) (by omega) (by omega) (by omega)
      exact ⟨p, h6, (ov_on_iff (ov_gD G) (ov_g8 G) h2).mpr (Or.inr ⟨h0, h7⟩), h8⟩
theorem ov_Wlt (G : ov_PG sc np nc pa sg po op aa bn) (F : ov_WF sc np nc RM pa sg po op bn) {m k : Nat} (hk : k < nc) : ov_W pa sg po op aa bn nc m k < 2 ^ 21 := by
  obtain ⟨h1, h2, h3, h4⟩ := ov_gO G hk
  have h5 := ov_gA G m (po k)
  have h6 := ov_gA G m (bn k)
  have h7 := ov_gsn (pa := pa) (sg := sg) (po := po) (op := op) (bn := bn) (nc := nc) (bn k)
  unfold ov_W
  by_cases e7 : op k = 7
  · rw [if_pos e7]; omega
  · rw [if_neg e7]
    by_cases e8 : op k = 8
    · rw [if_pos e8]
      by_cases c : m = 0 ∧ ov_on pa (sg (po k)) (sg (bn k)) = false
      · rw [if_pos c]; omega
      · rw [if_neg c]; omega
    · rw [if_neg e8]; omega
end

/-! numbers as ints: words, bits -/
theorem ov_w16 {w : Nat} (h : w < 2 ^ 31) : nI w >>> ((16 : Int32) &&& 31) = nI (w / 65536) := pk_shrN h _ 16 (by decide)
theorem ov_w8 {w : Nat} (h : w < 2 ^ 31) : (nI w >>> ((8 : Int32) &&& 31)) &&& 255 = nI (w / 256 % 256) := by
  have e : nI w >>> ((8 : Int32) &&& 31) = nI (w / 256) := pk_shrN h _ 8 (by decide)
  rw [e]
  exact pk_andN (by omega) 8 (by decide)
theorem ov_w0 {w : Nat} (h : w < 2 ^ 31) : nI w &&& 255 = nI (w % 256) := pk_andN (by omega) 8 (by decide)
theorem ov_w7 {w : Nat} (h : w < 2 ^ 31) : nI w >>> ((7 : Int32) &&& 31) = nI (w / 128) := pk_shrN h _ 7 (by decide)
theorem ov_w127 {w : Nat} (h : w < 2 ^ 31) : nI w &&& 127 = nI (w % 128) := pk_andN (by omega) 7 (by decide)
theorem ov_b1 : ∀ i, i < 32 → bt 1 i = decide (i = 0) := by decide +kernel
theorem ov_bit (x : Int32) {t : Nat} (ht : t < 31) : ((x >>> (nI t &&& 31)) &&& 1) = 0 ↔ bt x t = false := by
  constructor
  · intro h
    have h1 : bt ((x >>> (nI t &&& 31)) &&& 1) 0 = bt 0 0 := by rw [h]
    rw [b_and, b_0, b_sshr t (by omega) x (by omega), ov_b1 0 (by omega), if_pos (by omega)] at h1
    have h2 : decide ((0 : Nat) = 0) = true := rfl
    rw [h2, Bool.and_true] at h1
    exact h1
  · intro h
    apply b_ext
    intro i hi
    rw [b_and, b_0, b_sshr t (by omega) x hi, ov_b1 i hi]
    by_cases e : i = 0
    · subst e; rw [if_pos (by omega)]
      show (bt x t && _) = false
      rw [h, Bool.false_and]
    · rw [decide_eq_false e, Bool.and_false]
theorem ov_bit1 : ∀ n, n < 31 → ∀ i, i < 31 → bt ((1 : Int32) <<< (nI n &&& 31)) i = decide (i = n) := by
  intro n hn i hi
  rw [b_shl n (by omega) 1 (by omega)]
  by_cases h : n ≤ i
  · rw [decide_eq_true h, Bool.true_and, ov_b1 (i - n) (by omega)]
    exact decide_eq_decide.mpr (by omega)
  · rw [decide_eq_false h, Bool.false_and, decide_eq_false (by omega)]
theorem ov_fe {f : Nat → Nat} {j v : Nat} (hj : j < 2 ^ 31) (h1 : f j < 2 ^ 31) (h2 : v < 2 ^ 31) : ov_f f (nI j).toNatClampNeg = nI v ↔ f j = v := by
  rw [ov_at hj, nI_eq h1 h2]
theorem ov_ix (x : Int32) {n : Nat} (hn : n < 2 ^ 31) : x < 0 ∨ (¬ x < 0 ∧ nI n ≤ x ∧ ¬ x < nI n) ∨ ∃ j : Nat, j < n ∧ x = nI j := by
  by_cases h : x < 0
  · exact Or.inl h
  · obtain ⟨j, hj, rfl⟩ := nI_of h
    by_cases h2 : j < n
    · exact Or.inr (Or.inr ⟨j, h2, rfl⟩)
    · exact Or.inr (Or.inl ⟨h, nI_le (by omega) hj, nI_nlt (by omega) hj⟩)
end
section
/-! the reference's readers against the pure functions -/
def ov_BB (op bn : Nat → Nat) (nc : Nat) (bb : Nat → Int32) : Prop := ∀ k, k < nc → (op k = 1 → bb k = (nI (bn k)).toInt8.toInt32) ∧ (op k ≠ 1 → bb k = nI (bn k))
theorem ov_fle {f : Nat → Nat} {j v : Nat} (hj : j < 2 ^ 31) (h1 : f j < 2 ^ 31) (h2 : v < 2 ^ 31) : nI v ≤ ov_f f (nI j).toNatClampNeg ↔ v ≤ f j := by
  rw [ov_at hj, nI_leI h2 h1]
theorem ov_onF_0 {pa : Nat → Nat} {t : Nat} (h : ¬ 0 = t) (n : Nat) : ov_onF pa t n 0 = false := by
  cases n with
  | zero => rfl
  | succ n =>
    show (decide (0 = t) || (decide (0 < 0) && ov_onF pa t n (pa 0))) = false
    rw [decide_eq_false h]; rfl
section
variable {f_maxSegments f_maxProcedures f_maxMemory f_maxDepth f_segs f_procs f_count f_linked : Int32} {a_parent a_segOf a_procOf a_ops a_as a_bs a_cells a_stat a_pos a_stepCount a_traces a_held a_stack : Nat → Int32} {sc np nc : Nat} {pa sg po op aa bn : Nat → Nat} {bb : Nat → Int32} {post : Int32 → Prop}
theorem ov_yfind5 (G : ov_PG sc np nc pa sg po op aa bn) {p : Nat} (hp : p < 12) {x2 : Int32} (h1 : ∀ i, i < ov_ln po nc p → x2 = nI i → post (nI (ov_fi po nc p + i))) (h2 : (∀ i, i < ov_ln po nc p → x2 ≠ nI i) → post (-1)) :
    ∀ d k n, k + d = nc → d < n → (∀ i, i < ov_cn (fun j => decide (po j = p)) k → x2 ≠ nI i) → wY_find_5 post (nI p) x2 f_maxSegments f_maxProcedures f_maxMemory f_maxDepth (nI sc) (nI np) (nI nc) f_linked (ov_f pa) (ov_f sg) (ov_f po) (ov_f op) (ov_f aa) a_bs a_cells a_stat a_pos a_stepCount a_traces a_held a_stack n (nI (ov_cn (fun j => decide (po j = p)) k)) (nI k) := by
  have h128 := ov_g128 G
  have h12 := ov_g12 G
  intro d
  induction d with
  | zero =>
    intro k n hk hn hi
    obtain ⟨n, rfl⟩ : ∃ n', n = n' + 1 := ⟨n - 1, by omega⟩
    have e : nc = k := by omega
    refine br_t (nI_le (by omega) (by omega)) (h2 (fun i hlt => hi i ?_))
    rw [← e]; exact hlt
  | succ d ih =>
    intro k n hk hn hi
    obtain ⟨n, rfl⟩ : ∃ n', n = n' + 1 := ⟨n - 1, by omega⟩
    have hk' : k < nc := by omega
    have hpo := ov_gp G hk'
    refine br_f (nI_ge (by omega) (by omega)) ⟨vp_in_nI (by omega) (by omega), ek_if (ov_fe (by omega) (by omega) (by omega)) (fun e => ?_) (fun e => ?_)⟩
    · have hT : (fun j => decide (po j = p)) k = true := decide_eq_true e
      obtain ⟨e1, e2⟩ := ov_po_cn (ov_gM G) hk' e
      by_cases hx : nI (ov_cn (fun j => decide (po j = p)) k) = x2
      · refine br_t hx ?_
        have h3 := h1 _ e2 hx.symm
        rw [← e1] at h3
        exact h3
      · refine br_f hx (nm_r (e' := nI (ov_cn (fun j => decide (po j = p)) (k + 1))) (by rw [ov_cnT hT]; exact nI_1 _) (nm_r (nI_1 k) ?_))
        refine ih (k + 1) n (by omega) (by omega) (fun i hlt => ?_)
        rw [ov_cnT hT] at hlt
        by_cases e3 : i = ov_cn (fun j => decide (po j = p)) k
        · rw [e3]; exact fun z => hx z.symm
        · exact hi i (by omega)
    · have hF : ¬ (fun j => decide (po j = p)) k = true := fun z => e (of_decide_eq_true z)
      refine nm_r (nI_1 k) ?_
      have h3 := ih (k + 1) n (by omega) (by omega)
      rw [ov_cnF hF] at h3
      exact h3 hi
theorem ov_yfind (G : ov_PG sc np nc pa sg po op aa bn) {p : Nat} (hp : p < 12) {x x2 : Int32} (hx : x = nI p) (h1 : ∀ i, i < ov_ln po nc p → x2 = nI i → post (nI (ov_fi po nc p + i))) (h2 : (∀ i, i < ov_ln po nc p → x2 ≠ nI i) → post (-1)) : wpY_find post (f_maxSegments, f_maxProcedures, f_maxMemory, f_maxDepth, nI sc, nI np, nI nc, f_linked, ov_f pa, ov_f sg, ov_f po, ov_f op, ov_f aa, a_bs, a_cells, a_stat, a_pos, a_stepCount, a_traces, a_held, a_stack) x x2 := by
  subst hx
  exact Exists.intro (nc + 1) (ov_yfind5 G hp h1 h2 nc 0 (nc + 1) (by omega) (by omega) (fun i h => absurd h (Nat.not_lt_zero i)))
theorem ov_ylen4 (G : ov_PG sc np nc pa sg po op aa bn) {p : Nat} (hp : p < 12) (h : post (nI (ov_ln po nc p))) :
    ∀ d k n, k + d = nc → d < n → wY_length_4 post (nI p) f_maxSegments f_maxProcedures f_maxMemory f_maxDepth (nI sc) (nI np) (nI nc) f_linked (ov_f pa) (ov_f sg) (ov_f po) (ov_f op) (ov_f aa) a_bs a_cells a_stat a_pos a_stepCount a_traces a_held a_stack n (nI (ov_cn (fun j => decide (po j = p)) k)) (nI k) := by
  have h128 := ov_g128 G
  have h12 := ov_g12 G
  intro d
  induction d with
  | zero =>
    intro k n hk hn
    obtain ⟨n, rfl⟩ : ∃ n', n = n' + 1 := ⟨n - 1, by omega⟩
    have e : k = nc := by omega
    refine br_t (nI_le (by omega) (by omega)) ?_
    rw [e]; exact h
  | succ d ih =>
    intro k n hk hn
    obtain ⟨n, rfl⟩ : ∃ n', n = n' + 1 := ⟨n - 1, by omega⟩
    have hk' : k < nc := by omega
    have hpo := ov_gp G hk'
    have h3 := ih (k + 1) n (by omega) (by omega)
    refine br_f (nI_ge (by omega) (by omega)) ⟨vp_in_nI (by omega) (by omega), ek_if (ov_fe (by omega) (by omega) (by omega)) (fun e => ?_) (fun e => ?_)⟩
    · rw [ov_cnT (P := fun j => decide (po j = p)) (decide_eq_true e)] at h3
      exact nm_r (nI_1 _) (nm_r (nI_1 k) h3)
    · rw [ov_cnF (P := fun j => decide (po j = p)) (fun z => e (of_decide_eq_true z))] at h3
      exact nm_r (nI_1 k) h3
theorem ov_ylen (G : ov_PG sc np nc pa sg po op aa bn) {p : Nat} (hp : p < 12) {x : Int32} (hx : x = nI p) (h : post (nI (ov_ln po nc p))) : wpY_length post (f_maxSegments, f_maxProcedures, f_maxMemory, f_maxDepth, nI sc, nI np, nI nc, f_linked, ov_f pa, ov_f sg, ov_f po, ov_f op, ov_f aa, a_bs, a_cells, a_stat, a_pos, a_stepCount, a_traces, a_held, a_stack) x := by
  subst hx
  exact Exists.intro (nc + 1) (ov_ylen4 G hp h nc 0 (nc + 1) (by omega) (by omega))
theorem ov_ysz4 (G : ov_PG sc np nc pa sg po op aa bn) {s : Nat} (hs : s < 8) (h : post (nI (ov_sz sg po nc s))) :
    ∀ d k n, k + d = nc → d < n → wY_size_4 post (nI s) f_maxSegments f_maxProcedures f_maxMemory f_maxDepth (nI sc) (nI np) (nI nc) f_linked (ov_f pa) (ov_f sg) (ov_f po) (ov_f op) (ov_f aa) a_bs a_cells a_stat a_pos a_stepCount a_traces a_held a_stack n (nI (ov_cn (fun j => decide (sg (po j) = s)) k)) (nI k) := by
  have h128 := ov_g128 G
  have h12 := ov_g12 G
  have h8 := ov_g8 G
  intro d
  induction d with
  | zero =>
    intro k n hk hn
    obtain ⟨n, rfl⟩ : ∃ n', n = n' + 1 := ⟨n - 1, by omega⟩
    have e : k = nc := by omega
    refine br_t (nI_le (by omega) (by omega)) ?_
    rw [e]; exact h
  | succ d ih =>
    intro k n hk hn
    obtain ⟨n, rfl⟩ : ∃ n', n = n' + 1 := ⟨n - 1, by omega⟩
    have hk' : k < nc := by omega
    have hpo := ov_gp G hk'
    have hsg := ov_gs G hpo
    have h3 := ih (k + 1) n (by omega) (by omega)
    have ea : ov_f po (nI k).toNatClampNeg = nI (po k) := ov_at (by omega)
    have eb : ov_f sg (ov_f po (nI k).toNatClampNeg).toNatClampNeg = nI (sg (po k)) := by rw [ea]; exact ov_at (by omega)
    refine br_f (nI_ge (by omega) (by omega)) ⟨vp_in_nI (by omega) (by omega), by rw [ea]; exact vp_in_nI (by omega) (by omega), ek_if (d := sg (po k) = s) (by rw [eb]; exact nI_eq (by omega) (by omega)) (fun e => ?_) (fun e => ?_)⟩
    · rw [ov_cnT (P := fun j => decide (sg (po j) = s)) (decide_eq_true e)] at h3
      exact nm_r (nI_1 _) (nm_r (nI_1 k) h3)
    · rw [ov_cnF (P := fun j => decide (sg (po j) = s)) (fun z => e (of_decide_eq_true z))] at h3
      exact nm_r (nI_1 k) h3
theorem ov_ysz (G : ov_PG sc np nc pa sg po op aa bn) {s : Nat} (hs : s < 8) {x : Int32} (hx : x = nI s) (h : post (nI (ov_sz sg po nc s))) : wpY_size post (f_maxSegments, f_maxProcedures, f_maxMemory, f_maxDepth, nI sc, nI np, nI nc, f_linked, ov_f pa, ov_f sg, ov_f po, ov_f op, ov_f aa, a_bs, a_cells, a_stat, a_pos, a_stepCount, a_traces, a_held, a_stack) x := by
  subst hx
  exact Exists.intro (nc + 1) (ov_ysz4 G hs h nc 0 (nc + 1) (by omega) (by omega))
theorem ov_yba7 (G : ov_PG sc np nc pa sg po op aa bn) : ∀ d j s acc n, j + d = 8 → d < n → s < sc → post (nI (acc + ov_baF pa (ov_sz sg po nc) d s)) → wY_base_7 post f_maxSegments f_maxProcedures f_maxMemory f_maxDepth (nI sc) (nI np) (nI nc) f_linked (ov_f pa) (ov_f sg) (ov_f po) (ov_f op) (ov_f aa) a_bs a_cells a_stat a_pos a_stepCount a_traces a_held a_stack n (nI acc) (nI s) (nI j) := by
  have h8 := ov_g8 G
  intro d
  induction d with
  | zero =>
    intro j s acc n hj hn hs h
    obtain ⟨n, rfl⟩ : ∃ n', n = n' + 1 := ⟨n - 1, by omega⟩
    exact br_t (nI_le (a := 8) (by omega) (by omega)) h
  | succ d ih =>
    intro j s acc n hj hn hs h
    obtain ⟨n, rfl⟩ : ∃ n', n = n' + 1 := ⟨n - 1, by omega⟩
    refine br_f (nI_ge (b := 8) (by omega) (by omega)) ?_
    by_cases e : s = 0
    · subst e
      refine br_t (nI_le (a := 0) (b := 0) (Nat.le_refl 0) (by omega)) (nm_r (nI_1 j) (ih (j + 1) 0 acc n (by omega) (by omega) hs ?_))
      rw [ov_baF_0] at h ⊢
      exact h
    · have hd := ov_gD G s (by omega) hs
      refine br_f (nI_nle (by omega) (by omega)) ⟨vp_in_nI (by omega) (by omega), nm_r (ov_at (by omega)) (ov_ysz G (s := pa s) (by omega) rfl (nm_r (nI_add _ _) (nm_r (nI_1 j) (ih (j + 1) (pa s) _ n (by omega) (by omega) (by omega) ?_))))⟩
      rw [ov_baF_s (by omega)] at h
      rw [Nat.add_assoc]
      exact h
theorem ov_yba (G : ov_PG sc np nc pa sg po op aa bn) {s : Nat} (hs : s < sc) {x : Int32} (hx : x = nI s) (h : post (nI (ov_ba pa (ov_sz sg po nc) s))) : wpY_base post (f_maxSegments, f_maxProcedures, f_maxMemory, f_maxDepth, nI sc, nI np, nI nc, f_linked, ov_f pa, ov_f sg, ov_f po, ov_f op, ov_f aa, a_bs, a_cells, a_stat, a_pos, a_stepCount, a_traces, a_held, a_stack) x := by
  subst hx
  exact Exists.intro 9 (ov_yba7 G 8 0 s 0 9 (by omega) (by omega) hs (by rw [Nat.zero_add]; exact h))
theorem ov_yon5 (G : ov_PG sc np nc pa sg po op aa bn) {t : Nat} (ht : t < 8) : ∀ d j s n, j + d = 8 → d < n → s < sc → (ov_onF pa t d s = true → post 1) → (ov_onF pa t d s = false → post 0) → wY_onPath_5 post (nI t) f_maxSegments f_maxProcedures f_maxMemory f_maxDepth (nI sc) (nI np) (nI nc) f_linked (ov_f pa) (ov_f sg) (ov_f po) (ov_f op) (ov_f aa) a_bs a_cells a_stat a_pos a_stepCount a_traces a_held a_stack n (nI s) (nI j) := by
  have h8 := ov_g8 G
  intro d
  induction d with
  | zero =>
    intro j s n hj hn hs h1 h0
    obtain ⟨n, rfl⟩ : ∃ n', n = n' + 1 := ⟨n - 1, by omega⟩
    exact br_t (nI_le (a := 8) (by omega) (by omega)) (h0 rfl)
  | succ d ih =>
    intro j s n hj hn hs h1 h0
    obtain ⟨n, rfl⟩ : ∃ n', n = n' + 1 := ⟨n - 1, by omega⟩
    refine br_f (nI_ge (b := 8) (by omega) (by omega)) ?_
    by_cases e : s = t
    · exact br_t (congrArg nI e) (h1 (by
        show (decide (s = t) || _) = true
        rw [decide_eq_true e]; rfl))
    · have e0 : ov_onF pa t (d + 1) s = (decide (0 < s) && ov_onF pa t d (pa s)) := by
        show (decide (s = t) || _) = _
        rw [decide_eq_false e]; rfl
      refine br_f (fun z => e ((nI_eq (by omega) (by omega)).mp z)) ?_
      by_cases e2 : s = 0
      · subst e2
        have e3 := ov_onF_0 (pa := pa) e d
        refine br_t (nI_le (a := 0) (b := 0) (Nat.le_refl 0) (by omega)) (nm_r (nI_1 j) (ih (j + 1) 0 n (by omega) (by omega) hs ?_ ?_))
        · intro z; rw [e3] at z; exact absurd z (by decide)
        · intro _; exact h0 (by rw [e0]; rfl)
      · have hd := ov_gD G s (by omega) hs
        have e3 : ov_onF pa t (d + 1) s = ov_onF pa t d (pa s) := by
          rw [e0, decide_eq_true (by omega)]; rfl
        rw [e3] at h1 h0
        exact br_f (nI_nle (by omega) (by omega)) ⟨vp_in_nI (by omega) (by omega), nm_r (ov_at (by omega)) (nm_r (nI_1 j) (ih (j + 1) (pa s) n (by omega) (by omega) (by omega) h1 h0))⟩
theorem ov_yon (G : ov_PG sc np nc pa sg po op aa bn) {s t : Nat} (hs : s < sc) (ht : t < 8) {x y : Int32} (hx : x = nI s) (hy : y = nI t) (h1 : ov_on pa s t = true → post 1) (h0 : ov_on pa s t = false → post 0) : wpY_onPath post (f_maxSegments, f_maxProcedures, f_maxMemory, f_maxDepth, nI sc, nI np, nI nc, f_linked, ov_f pa, ov_f sg, ov_f po, ov_f op, ov_f aa, a_bs, a_cells, a_stat, a_pos, a_stepCount, a_traces, a_held, a_stack) x y := by
  subst hx hy
  exact Exists.intro 9 (ov_yon5 G ht 8 0 s 9 (by omega) (by omega) hs h1 h0)
theorem ov_yad1 (G : ov_PG sc np nc pa sg po op aa bn) {p : Nat} (hp : p < 12) (h : post (nI (ov_fi po nc p))) :
    ∀ d k n, k + d = nc → d < n → wY_address_20 post 1 (nI p) f_maxSegments f_maxProcedures f_maxMemory f_maxDepth (nI sc) (nI np) (nI nc) f_linked (ov_f pa) (ov_f sg) (ov_f po) (ov_f op) (ov_f aa) a_bs a_cells a_stat a_pos a_stepCount a_traces a_held a_stack n (nI (ov_cn (fun j => decide (po j < p)) k)) (nI k) := by
  have h128 := ov_g128 G
  have h12 := ov_g12 G
  intro d
  induction d with
  | zero =>
    intro k n hk hn
    obtain ⟨n, rfl⟩ : ∃ n', n = n' + 1 := ⟨n - 1, by omega⟩
    have e : k = nc := by omega
    refine br_t (nI_le (by omega) (by omega)) ?_
    rw [e]; exact h
  | succ d ih =>
    intro k n hk hn
    obtain ⟨n, rfl⟩ : ∃ n', n = n' + 1 := ⟨n - 1, by omega⟩
    have hk' : k < nc := by omega
    have hpo := ov_gp G hk'
    have h3 := ih (k + 1) n (by omega) (by omega)
    refine br_f (nI_ge (by omega) (by omega)) ⟨vp_in_nI (by omega) (by omega), ek_if (ov_fle (by omega) (by omega) (by omega)) (fun e => ?_) (fun e => ?_)⟩
    · rw [ov_cnF (P := fun j => decide (po j < p)) (fun z => absurd (of_decide_eq_true z) (by omega))] at h3
      exact nm_r (nI_1 k) h3
    · rw [ov_cnT (P := fun j => decide (po j < p)) (decide_eq_true (by omega))] at h3
      exact br_t rfl (nm_r (nI_1 _) (nm_r (nI_1 k) h3))
theorem ov_yad0 (G : ov_PG sc np nc pa sg po op aa bn) {p B : Nat} (hp : p < np) (h : post (nI (B + ov_c sg po nc (sg p) p))) :
    ∀ d k n, k + d = nc → d < n → wY_address_20 post 0 (nI p) f_maxSegments f_maxProcedures f_maxMemory f_maxDepth (nI sc) (nI np) (nI nc) f_linked (ov_f pa) (ov_f sg) (ov_f po) (ov_f op) (ov_f aa) a_bs a_cells a_stat a_pos a_stepCount a_traces a_held a_stack n (nI (B + ov_cn (fun j => decide (po j < p ∧ sg (po j) = sg p)) k)) (nI k) := by
  have h128 := ov_g128 G
  have h12 := ov_g12 G
  have h8 := ov_g8 G
  have hsp := ov_gs G hp
  intro d
  induction d with
  | zero =>
    intro k n hk hn
    obtain ⟨n, rfl⟩ : ∃ n', n = n' + 1 := ⟨n - 1, by omega⟩
    have e : k = nc := by omega
    refine br_t (nI_le (by omega) (by omega)) ?_
    rw [e]; exact h
  | succ d ih =>
    intro k n hk hn
    obtain ⟨n, rfl⟩ : ∃ n', n = n' + 1 := ⟨n - 1, by omega⟩
    have hk' : k < nc := by omega
    have hpo := ov_gp G hk'
    have hsg := ov_gs G hpo
    have h3 := ih (k + 1) n (by omega) (by omega)
    have ea : ov_f po (nI k).toNatClampNeg = nI (po k) := ov_at (by omega)
    have eb : ov_f sg (ov_f po (nI k).toNatClampNeg).toNatClampNeg = nI (sg (po k)) := by rw [ea]; exact ov_at (by omega)
    have ec : ov_f sg (nI p).toNatClampNeg = nI (sg p) := ov_at (by omega)
    have vk : vp_in (nI k) 128 := vp_in_nI (by omega) (by omega)
    refine br_f (nI_ge (by omega) (by omega)) ⟨vk, ek_if (ov_fle (by omega) (by omega) (by omega)) (fun e => ?_) (fun e => ?_)⟩
    · rw [ov_cnF (P := fun j => decide (po j < p ∧ sg (po j) = sg p)) (fun z => absurd (of_decide_eq_true z).1 (by omega))] at h3
      exact nm_r (nI_1 k) h3
    · refine br_f (by decide) ⟨vk, by rw [ea]; exact vp_in_nI (by omega) (by omega), vp_in_nI (by omega) (by omega), ek_if (d := sg (po k) = sg p) (by rw [eb, ec]; exact nI_eq (by omega) (by omega)) (fun e2 => ?_) (fun e2 => ?_)⟩
      · rw [ov_cnT (P := fun j => decide (po j < p ∧ sg (po j) = sg p)) (decide_eq_true ⟨by omega, e2⟩)] at h3
        exact nm_r (nI_1 _) (nm_r (nI_1 k) h3)
      · rw [ov_cnF (P := fun j => decide (po j < p ∧ sg (po j) = sg p)) (fun z => e2 (of_decide_eq_true z).2)] at h3
        exact nm_r (nI_1 k) h3
theorem ov_yadr (G : ov_PG sc np nc pa sg po op aa bn) {m p : Nat} (hm : m < 2) (hp : p < np) {x y : Int32} (hx : x = nI m) (hy : y = nI p) (h : post (nI (ov_A pa sg po nc m p))) : wpY_address post (f_maxSegments, f_maxProcedures, f_maxMemory, f_maxDepth, nI sc, nI np, nI nc, f_linked, ov_f pa, ov_f sg, ov_f po, ov_f op, ov_f aa, a_bs, a_cells, a_stat, a_pos, a_stepCount, a_traces, a_held, a_stack) x y := by
  subst hx hy
  have h12 := ov_g12 G
  rcases (by omega : m = 0 ∨ m = 1) with e | e
  · subst e
    rw [ov_A0] at h
    exact br_t rfl (And.intro (vp_in_nI (by omega) (by omega)) (ov_yba G (ov_gs G hp) (ov_at (by omega)) (Exists.intro (nc + 1) (ov_yad0 G hp h nc 0 (nc + 1) (by omega) (by omega)))))
  · subst e
    rw [ov_A1] at h
    exact br_f (by decide) (Exists.intro (nc + 1) (ov_yad1 G (by omega) h nc 0 (nc + 1) (by omega) (by omega)))
end
end
section
/-! the reference: stubs and words -/
section
variable {f_maxSegments f_maxProcedures f_maxMemory f_maxDepth f_segs f_procs f_count f_linked : Int32} {a_parent a_segOf a_procOf a_ops a_as a_bs a_cells a_stat a_pos a_stepCount a_traces a_held a_stack : Nat → Int32} {sc np nc : Nat} {pa sg po op aa bn : Nat → Nat} {bb : Nat → Int32} {post : Int32 → Prop}
theorem ov_bb2 (G : ov_PG sc np nc pa sg po op aa bn) (B : ov_BB op bn nc bb) {k : Nat} (hk : k < nc) (h : op k ≠ 1) : bb (nI k).toNatClampNeg = nI (bn k) := by
  have := ov_g128 G
  rw [nI_clamp (by omega)]; exact (B k hk).2 h
theorem ov_yhs2 (G : ov_PG sc np nc pa sg po op aa bn) (B : ov_BB op bn nc bb) {q : Nat} (hq : q < np) (h1 : ov_hs pa sg po op bn nc q = true → post 1) (h0 : ov_hs pa sg po op bn nc q = false → post 0) :
    ∀ d k n, k + d = nc → d < n → (∀ j, j < k → ¬ (op j = 8 ∧ bn j = q ∧ ov_on pa (sg (po j)) (sg q) = false)) → wY_hasStub_2 post (nI q) f_maxSegments f_maxProcedures f_maxMemory f_maxDepth (nI sc) (nI np) (nI nc) f_linked (ov_f pa) (ov_f sg) (ov_f po) (ov_f op) (ov_f aa) bb a_cells a_stat a_pos a_stepCount a_traces a_held a_stack n (nI k) := by
  have h128 := ov_g128 G
  have h12 := ov_g12 G
  have h8 := ov_g8 G
  have hsq := ov_gs G hq
  intro d
  induction d with
  | zero =>
    intro k n hk hn hi
    obtain ⟨n, rfl⟩ : ∃ n', n = n' + 1 := ⟨n - 1, by omega⟩
    have e : k = nc := by omega
    refine br_t (nI_le (by omega) (by omega)) (h0 ?_)
    apply Bool.eq_false_iff.mpr
    intro z
    obtain ⟨j, hj, hh⟩ := ov_hs_iff.mp z
    exact hi j (by omega) hh
  | succ d ih =>
    intro k n hk hn hi
    obtain ⟨n, rfl⟩ : ∃ n', n = n' + 1 := ⟨n - 1, by omega⟩
    have hk' : k < nc := by omega
    have hpo := ov_gp G hk'
    have hsg := ov_gs G hpo
    obtain ⟨o1, o2, o3, o4⟩ := ov_gO G hk'
    have ea : ov_f po (nI k).toNatClampNeg = nI (po k) := ov_at (by omega)
    have eb : ov_f sg (ov_f po (nI k).toNatClampNeg).toNatClampNeg = nI (sg (po k)) := by rw [ea]; exact ov_at (by omega)
    have vk : vp_in (nI k) 128 := vp_in_nI (by omega) (by omega)
    have nxt : ¬ (op k = 8 ∧ bn k = q ∧ ov_on pa (sg (po k)) (sg q) = false) → wY_hasStub_2 post (nI q) f_maxSegments f_maxProcedures f_maxMemory f_maxDepth (nI sc) (nI np) (nI nc) f_linked (ov_f pa) (ov_f sg) (ov_f po) (ov_f op) (ov_f aa) bb a_cells a_stat a_pos a_stepCount a_traces a_held a_stack n (nI (k + 1)) := fun hne =>
      ih (k + 1) n (by omega) (by omega) (fun j hj => by
        by_cases e : j = k
        · rw [e]; exact hne
        · exact hi j (by omega))
    refine br_f (nI_ge (by omega) (by omega)) ⟨vk, ek_if (ov_fe (v := 8) (by omega) (by omega) (by omega)) (fun e => ⟨vk, ?_⟩) (fun e => nm_r (nI_1 k) (nxt (fun z => e z.1)))⟩
    have ebb := ov_bb2 G B hk' (by omega)
    refine ek_if (d := bn k = q) (by rw [ebb]; exact nI_eq (by omega) (by omega)) (fun e2 => ⟨vk, by rw [ea]; exact vp_in_nI (by omega) (by omega), vp_in_nI (by omega) (by omega), ?_⟩) (fun e2 => nm_r (nI_1 k) (nxt (fun z => e2 z.2.1)))
    refine ov_yon G hsg (by omega : sg q < 8) eb (ov_at (by omega)) (fun h => ?_) (fun h => ?_)
    · exact br_f (by decide) (nm_r (nI_1 k) (nxt (fun z => by rw [z.2.2] at h; exact absurd h (by decide))))
    · exact br_t rfl (h1 (ov_hs_iff.mpr ⟨k, hk', e, e2, h⟩))
theorem ov_yhs (G : ov_PG sc np nc pa sg po op aa bn) (B : ov_BB op bn nc bb) {q : Nat} (hq : q < np) {x : Int32} (hx : x = nI q) (h1 : ov_hs pa sg po op bn nc q = true → post 1) (h0 : ov_hs pa sg po op bn nc q = false → post 0) : wpY_hasStub post (f_maxSegments, f_maxProcedures, f_maxMemory, f_maxDepth, nI sc, nI np, nI nc, f_linked, ov_f pa, ov_f sg, ov_f po, ov_f op, ov_f aa, bb, a_cells, a_stat, a_pos, a_stepCount, a_traces, a_held, a_stack) x := by
  subst hx
  exact Exists.intro (nc + 1) (ov_yhs2 G B hq h1 h0 nc 0 (nc + 1) (by omega) (by omega) (fun j hj => absurd hj (Nat.not_lt_zero j)))
theorem ov_ysn14 (G : ov_PG sc np nc pa sg po op aa bn) (B : ov_BB op bn nc bb) {q : Nat} (hq : q < np) (h : post (nI (ov_sn pa sg po op bn nc q))) :
    ∀ d j n, j + d = q → d < n → wY_stubNumber_14 post (nI q) f_maxSegments f_maxProcedures f_maxMemory f_maxDepth (nI sc) (nI np) (nI nc) f_linked (ov_f pa) (ov_f sg) (ov_f po) (ov_f op) (ov_f aa) bb a_cells a_stat a_pos a_stepCount a_traces a_held a_stack n (nI (ov_cn (ov_hs pa sg po op bn nc) j)) (nI j) := by
  have h12 := ov_g12 G
  intro d
  induction d with
  | zero =>
    intro j n hj hn
    obtain ⟨n, rfl⟩ : ∃ n', n = n' + 1 := ⟨n - 1, by omega⟩
    have e : j = q := by omega
    refine br_t (nI_le (by omega) (by omega)) ?_
    rw [e]; exact h
  | succ d ih =>
    intro j n hj hn
    obtain ⟨n, rfl⟩ : ∃ n', n = n' + 1 := ⟨n - 1, by omega⟩
    have h3 := ih (j + 1) n (by omega) (by omega)
    refine br_f (nI_ge (by omega) (by omega)) (ov_yhs G B (q := j) (by omega) rfl (fun e => ?_) (fun e => ?_))
    · rw [ov_cnT e] at h3
      exact br_f (by decide) (nm_r (nI_1 _) (nm_r (nI_1 j) h3))
    · rw [ov_cnF (by rw [e]; decide)] at h3
      exact br_t rfl (nm_r (nI_1 j) h3)
theorem ov_ysn (G : ov_PG sc np nc pa sg po op aa bn) (B : ov_BB op bn nc bb) {q : Nat} (hq : q < np) {x : Int32} (hx : x = nI q) (h1 : ov_hs pa sg po op bn nc q = true → post (nI (ov_sn pa sg po op bn nc q))) (h0 : ov_hs pa sg po op bn nc q = false → post (-1)) : wpY_stubNumber post (f_maxSegments, f_maxProcedures, f_maxMemory, f_maxDepth, nI sc, nI np, nI nc, f_linked, ov_f pa, ov_f sg, ov_f po, ov_f op, ov_f aa, bb, a_cells, a_stat, a_pos, a_stepCount, a_traces, a_held, a_stack) x := by
  subst hx
  refine ov_yhs G B hq rfl (fun e => ?_) (fun e => br_t rfl (h0 e))
  exact br_f (by decide) (Exists.intro (q + 1) (ov_ysn14 G B hq (h1 e) q 0 (q + 1) (by omega) (by omega)))
theorem ov_src (o a b : Nat) : (nI o * 65536 + nI a * 256) + nI b = nI (o * 65536 + a * 256 + b) := by
  rw [← nI_add, ← nI_add, ← pk_mul, ← pk_mul]; rfl
theorem ov_b255 (B : ov_BB op bn nc bb) {k : Nat} (hk : k < nc) (hb : bn k < 256) : bb k &&& 255 = nI (bn k) := by
  have e : nI (bn k) &&& 255 = nI (bn k) := by
    rw [ov_w0 (by omega), Nat.mod_eq_of_lt hb]
  by_cases h : op k = 1
  · rw [(B k hk).1 h, bp_b, e]
  · rw [(B k hk).2 h, e]
theorem ov_W7 {m k : Nat} (h : op k = 7) : ov_W pa sg po op aa bn nc m k = 458752 + aa k * 256 + (ov_A pa sg po nc m (po k) + bn k) := if_pos h
theorem ov_W8s {m k : Nat} (h : op k = 8) (c : m = 0 ∧ ov_on pa (sg (po k)) (sg (bn k)) = false) : ov_W pa sg po op aa bn nc m k = 655360 + ov_sn pa sg po op bn nc (bn k) := by
  unfold ov_W
  rw [if_neg (by omega), if_pos h, if_pos c]
theorem ov_W8 {m k : Nat} (h : op k = 8) (c : ¬ (m = 0 ∧ ov_on pa (sg (po k)) (sg (bn k)) = false)) : ov_W pa sg po op aa bn nc m k = 524288 + ov_A pa sg po nc m (bn k) := by
  unfold ov_W
  rw [if_neg (by omega), if_pos h, if_neg c]
theorem ov_Wo {m k : Nat} (h : op k ≠ 7) (h8 : op k ≠ 8) : ov_W pa sg po op aa bn nc m k = op k * 65536 + aa k * 256 + bn k := by
  unfold ov_W
  rw [if_neg h, if_neg h8]
theorem ov_yword (G : ov_PG sc np nc pa sg po op aa bn) (B : ov_BB op bn nc bb) (C : ∀ k, k < nc → ¬ ov_BC op bn np k) {m k : Nat} (hm : m < 2) (hk : k < nc) {x y : Int32} (hx : x = nI m) (hy : y = nI k) (h : post (nI (ov_W pa sg po op aa bn nc m k))) : wpY_word post (f_maxSegments, f_maxProcedures, f_maxMemory, f_maxDepth, nI sc, nI np, nI nc, f_linked, ov_f pa, ov_f sg, ov_f po, ov_f op, ov_f aa, bb, a_cells, a_stat, a_pos, a_stepCount, a_traces, a_held, a_stack) x y := by
  subst hx hy
  have h128 := ov_g128 G
  have h12 := ov_g12 G
  have h8 := ov_g8 G
  have hpo := ov_gp G hk
  have hsg := ov_gs G hpo
  obtain ⟨o1, o2, o3, o4⟩ := ov_gO G hk
  have vk : vp_in (nI k) 128 := vp_in_nI (by omega) (by omega)
  have ea : ov_f aa (nI k).toNatClampNeg = nI (aa k) := ov_at (by omega)
  have ep : ov_f po (nI k).toNatClampNeg = nI (po k) := ov_at (by omega)
  refine And.intro vk (nm_r ep ⟨vk, ?_⟩)
  by_cases e1 : op k = 1
  · refine nm_e ⟨vk, br_f (fun z => ?_) ⟨vk, br_f (fun z => ?_) ⟨vk, vk, ?_⟩⟩⟩
    · have := (ov_fe (v := 7) (by omega) (by omega) (by omega)).mp z; omega
    · have := (ov_fe (v := 8) (by omega) (by omega) (by omega)).mp z; omega
    · rw [ov_Wo (by omega) (by omega)] at h
      rw [ov_at (f := op) (j := k) (by omega), ea, nI_clamp (n := k) (by omega), ov_b255 B hk o3, ov_src]
      exact h
  · have ebb := ov_bb2 G B hk e1
    refine nm_r ebb ⟨vk, ek_if (ov_fe (v := 7) (by omega) (by omega) (by omega)) (fun e => ⟨vk, ?_⟩) (fun e => ⟨vk, ek_if (ov_fe (v := 8) (by omega) (by omega) (by omega)) (fun e8 => ?_) (fun e8 => ⟨vk, vk, ?_⟩)⟩)⟩
    · refine ov_yadr G hm hpo rfl rfl ?_
      rw [ov_W7 e] at h
      have e3 : (458752 : Int32) + nI (aa k) * 256 + (nI (ov_A pa sg po nc m (po k)) + nI (bn k)) = nI (458752 + aa k * 256 + (ov_A pa sg po nc m (po k) + bn k)) := by
        rw [← nI_add, ← nI_add, ← nI_add, ← pk_mul]; rfl
      rw [ea, e3]
      exact h
    · have hb : bn k < np := by
        apply Nat.lt_of_not_le
        intro z
        exact C k hk ⟨e8, z⟩
      have hsb := ov_gs G hb
      have fin : post (nI (524288 + ov_A pa sg po nc m (bn k))) → wY_word_95 post (nI m) (nI (bn k)) f_maxSegments f_maxProcedures f_maxMemory f_maxDepth (nI sc) (nI np) (nI nc) f_linked (ov_f pa) (ov_f sg) (ov_f po) (ov_f op) (ov_f aa) bb a_cells a_stat a_pos a_stepCount a_traces a_held a_stack := by
        intro h2
        refine ov_yadr G hm hb rfl rfl ?_
        have e3 : (524288 : Int32) + nI (ov_A pa sg po nc m (bn k)) = nI (524288 + ov_A pa sg po nc m (bn k)) := by
          rw [← nI_add]; rfl
        rw [e3]
        exact h2
      rcases (by omega : m = 0 ∨ m = 1) with em | em
      · subst em
        refine br_t rfl ⟨vp_in_nI (by omega) (by omega), vp_in_nI (by omega) (by omega), ov_yon G hsg (by omega : sg (bn k) < 8) (ov_at (by omega)) (ov_at (by omega)) (fun e9 => ?_) (fun e9 => ?_)⟩
        · rw [ov_W8 e8 (fun z => by rw [z.2] at e9; exact absurd e9 (by decide))] at h
          exact br_f (by decide) (fin h)
        · rw [ov_W8s e8 ⟨rfl, e9⟩] at h
          refine br_t rfl (ov_ysn G B hb rfl (fun _ => ?_) (fun z => ?_))
          · have e3 : (655360 : Int32) + nI (ov_sn pa sg po op bn nc (bn k)) = nI (655360 + ov_sn pa sg po op bn nc (bn k)) := by
              rw [← nI_add]; rfl
            rw [e3]
            exact h
          · rw [ov_hs_iff.mpr ⟨k, hk, e8, rfl, e9⟩] at z
            exact absurd z (by decide)
      · subst em
        rw [ov_W8 e8 (fun z => by omega)] at h
        exact br_f (by decide) (fin h)
    · rw [ov_Wo e e8] at h
      have e4 : nI (bn k) &&& 255 = nI (bn k) := by rw [ov_w0 (by omega), Nat.mod_eq_of_lt o3]
      rw [ov_at (f := op) (j := k) (by omega), ea, e4, ov_src]
      exact h
end
end
section
/-! the component's checks, against the pure functions -/
def ov_FI (fir : Nat → Int32) (po : Nat → Nat) (nc np : Nat) : Prop := ∀ p, p < np → fir p = nI (ov_fi po nc p)
def ov_CD (cod : Nat → Int32) (op aa bn : Nat → Nat) (nc : Nat) : Prop := ∀ k, k < nc → cod k = nI (op k * 65536 + aa k * 256 + bn k)
def ov_PA (par : Nat → Int32) (pa : Nat → Nat) (sc : Nat) : Prop := par 0 = -1 ∧ ∀ s, 0 < s → s < sc → par s = nI (pa s)
def ov_PM (pmk : Nat → Int32) (pa : Nat → Nat) (sc : Nat) : Prop := ∀ s, s < sc → ∀ t, t < 31 → bt (pmk s) t = ov_on pa s t
theorem ov_dop {o a b : Nat} (ha : a ≤ 3) (hb : b < 256) : (o * 65536 + a * 256 + b) / 65536 = o := by omega
theorem ov_dlo {o a b : Nat} (hb : b < 256) : (o * 65536 + a * 256 + b) % 256 = b := by omega
theorem ov_sub1 {a : Nat} (h : 1 ≤ a) : nI a - 1 = nI (a - 1) := pk_sub (b := 1) h
section
variable {f_maxSegments f_maxProcedures f_room f_maxDepth f_segmentCount f_procedureCount f_codeCount f_linked f_resident : Int32} {a_parentOf a_pathMask a_sizeOf a_baseOf a_cursor a_segmentOf a_first a_lengthOf a_code a_address a_stubOf a_stubCallee a_image a_cell a_owner a_state a_current a_pc a_stepCount a_traceOf a_height a_values a_stack : Nat → Int32} {sc np nc : Nat} {pa sg po op aa bn : Nat → Nat} {post : Int32 → Prop}
theorem ov_cop (G : ov_PG sc np nc pa sg po op aa bn) (HC : ov_CD a_code op aa bn nc) {k : Nat} (hk : k < nc) {x : Int32} (hx : x = nI k) : a_code x.toNatClampNeg >>> ((16 : Int32) &&& 31) = nI (op k) := by
  have h128 := ov_g128 G
  obtain ⟨o1, o2, o3, o4⟩ := ov_gO G hk
  rw [hx, nI_clamp (by omega), HC k hk, ov_w16 (by omega), ov_dop o2 o3]
theorem ov_clo (G : ov_PG sc np nc pa sg po op aa bn) (HC : ov_CD a_code op aa bn nc) {k : Nat} (hk : k < nc) {x : Int32} (hx : x = nI k) : a_code x.toNatClampNeg &&& 255 = nI (bn k) := by
  have h128 := ov_g128 G
  obtain ⟨o1, o2, o3, o4⟩ := ov_gO G hk
  rw [hx, nI_clamp (by omega), HC k hk, ov_w0 (by omega), ov_dlo o3]
theorem ov_fia (G : ov_PG sc np nc pa sg po op aa bn) (HF : ov_FI a_first po nc np) {j : Nat} (hj : j < np) (i : Nat) : a_first (nI j).toNatClampNeg + nI i = nI (ov_fi po nc j + i) := by
  have h12 := ov_g12 G
  rw [nI_clamp (by omega), HF j hj, nI_add]
theorem ov_xoe2 (G : ov_PG sc np nc pa sg po op aa bn) (HF : ov_FI a_first po nc np) (HC : ov_CD a_code op aa bn nc) (h1 : (∃ p, p < np ∧ ov_OE po op nc p) → post 1) (h0 : (∀ p, p < np → ¬ ov_OE po op nc p) → post 0) :
    ∀ d j n, j + d = np → d < n → (∀ p, p < j → ¬ ov_OE po op nc p) → wX_hasOpenEnd_2 post f_maxSegments f_maxProcedures f_room f_maxDepth (nI sc) (nI np) (nI nc) f_linked f_resident a_parentOf a_pathMask (ov_f (ov_sz sg po nc)) a_baseOf a_cursor (ov_f sg) a_first (ov_f (ov_ln po nc)) a_code a_address a_stubOf a_stubCallee a_image a_cell a_owner a_state a_current a_pc a_stepCount a_traceOf a_height a_values a_stack n (nI j) := by
  have h128 := ov_g128 G
  have h12 := ov_g12 G
  intro d
  induction d with
  | zero =>
    intro j n hj hn hi
    obtain ⟨n, rfl⟩ : ∃ n', n = n' + 1 := ⟨n - 1, by omega⟩
    exact br_t (nI_le (by omega) (by omega)) (h0 (fun p hp => hi p (by omega)))
  | succ d ih =>
    intro j n hj hn hi
    obtain ⟨n, rfl⟩ : ∃ n', n = n' + 1 := ⟨n - 1, by omega⟩
    have hj' : j < np := by omega
    have hfl := ov_fl_le (po := po) (nc := nc) j
    have el : ov_f (ov_ln po nc) (nI j).toNatClampNeg = nI (ov_ln po nc j) := ov_at (by omega)
    have v12 : vp_in (nI j) 12 := vp_in_nI (by omega) (by omega)
    have nxt : ¬ ov_OE po op nc j → wX_hasOpenEnd_2 post f_maxSegments f_maxProcedures f_room f_maxDepth (nI sc) (nI np) (nI nc) f_linked f_resident a_parentOf a_pathMask (ov_f (ov_sz sg po nc)) a_baseOf a_cursor (ov_f sg) a_first (ov_f (ov_ln po nc)) a_code a_address a_stubOf a_stubCallee a_image a_cell a_owner a_state a_current a_pc a_stepCount a_traceOf a_height a_values a_stack n (nI (j + 1)) := fun hne =>
      ih (j + 1) n (by omega) (by omega) (fun p hp => by
        by_cases e : p = j
        · rw [e]; exact hne
        · exact hi p (by omega))
    refine br_f (nI_ge (by omega) (by omega)) ⟨v12, ek_if (d := ov_ln po nc j = 0) (by rw [el]; exact nI_eq (b := 0) (by omega) (by omega)) (fun e => h1 ⟨j, hj', Or.inl e⟩) (fun e => ?_)⟩
    have ei : a_first (nI j).toNatClampNeg + ov_f (ov_ln po nc) (nI j).toNatClampNeg - 1 = nI (ov_fi po nc j + (ov_ln po nc j - 1)) := by
      rw [el, ov_fia G HF hj', ov_sub1 (by omega)]
      exact congrArg nI (by omega)
    have hK : ov_fi po nc j + (ov_ln po nc j - 1) < nc := by omega
    obtain ⟨o1, o2, o3, o4⟩ := ov_gO G hK
    refine ⟨v12, v12, by rw [ei]; exact vp_in_nI (by omega) (by omega), nm_r (ov_cop G HC hK ei) (ek_if (nI_eq (b := 9) (by omega) (by omega)) (fun e9 => nm_r (nI_1 j) (nxt ?_)) (fun e9 => ek_if (nI_eq (b := 0) (by omega) (by omega)) (fun e0 => nm_r (nI_1 j) (nxt ?_)) (fun e0 => h1 ⟨j, hj', Or.inr ⟨e9, e0⟩⟩)))⟩
    · rintro (z | z)
      · exact e z
      · exact z.1 e9
    · rintro (z | z)
      · exact e z
      · exact z.2 e0
theorem ov_xoe (G : ov_PG sc np nc pa sg po op aa bn) (HF : ov_FI a_first po nc np) (HC : ov_CD a_code op aa bn nc) (h1 : (∃ p, p < np ∧ ov_OE po op nc p) → post 1) (h0 : (∀ p, p < np → ¬ ov_OE po op nc p) → post 0) : wpX_hasOpenEnd post (f_maxSegments, f_maxProcedures, f_room, f_maxDepth, nI sc, nI np, nI nc, f_linked, f_resident, a_parentOf, a_pathMask, ov_f (ov_sz sg po nc), a_baseOf, a_cursor, ov_f sg, a_first, ov_f (ov_ln po nc), a_code, a_address, a_stubOf, a_stubCallee, a_image, a_cell, a_owner, a_state, a_current, a_pc, a_stepCount, a_traceOf, a_height, a_values, a_stack) :=
  Exists.intro (np + 1) (ov_xoe2 G HF HC h1 h0 np 0 (np + 1) (by omega) (by omega) (fun p hp => absurd hp (Nat.not_lt_zero p)))
theorem ov_xbt12 (G : ov_PG sc np nc pa sg po op aa bn) (HF : ov_FI a_first po nc np) (HC : ov_CD a_code op aa bn nc) (h1 : (∃ k, k < nc ∧ ov_BT po op bn nc k) → post 1) {J : Int32 → Prop} {j : Nat} (hj : j < np)
    (hJ : (∀ k, k < nc → po k = j → ¬ ov_BT po op bn nc k) → J (nI (j + 1))) :
    ∀ d i n, i + d = ov_ln po nc j → d < n → (∀ k, k < ov_fi po nc j + i → po k = j → ¬ ov_BT po op bn nc k) → wX_hasBadTarget_12 post J (nI j) f_maxSegments f_maxProcedures f_room f_maxDepth (nI sc) (nI np) (nI nc) f_linked f_resident a_parentOf a_pathMask (ov_f (ov_sz sg po nc)) a_baseOf a_cursor (ov_f sg) a_first (ov_f (ov_ln po nc)) a_code a_address a_stubOf a_stubCallee a_image a_cell a_owner a_state a_current a_pc a_stepCount a_traceOf a_height a_values a_stack n (nI i) := by
  have h128 := ov_g128 G
  have h12 := ov_g12 G
  have hfl := ov_fl_le (po := po) (nc := nc) j
  have el : ov_f (ov_ln po nc) (nI j).toNatClampNeg = nI (ov_ln po nc j) := ov_at (by omega)
  have v12 : vp_in (nI j) 12 := vp_in_nI (by omega) (by omega)
  intro d
  induction d with
  | zero =>
    intro i n hi hn hh
    obtain ⟨n, rfl⟩ : ∃ n', n = n' + 1 := ⟨n - 1, by omega⟩
    refine And.intro v12 (br_t (by rw [el]; exact nI_le (by omega) (by omega)) (nm_r (nI_1 j) (hJ (fun k hk e => hh k ?_ e))))
    have := ov_po_of (ov_gM G) hk
    rw [e] at this
    omega
  | succ d ih =>
    intro i n hi hn hh
    obtain ⟨n, rfl⟩ : ∃ n', n = n' + 1 := ⟨n - 1, by omega⟩
    have hil : i < ov_ln po nc j := by omega
    obtain ⟨hK, hP⟩ := ov_po_at (ov_gM G) hil
    obtain ⟨o1, o2, o3, o4⟩ := ov_gO G hK
    have ei := ov_fia G HF hj i
    have nxt : ¬ ov_BT po op bn nc (ov_fi po nc j + i) → wX_hasBadTarget_12 post J (nI j) f_maxSegments f_maxProcedures f_room f_maxDepth (nI sc) (nI np) (nI nc) f_linked f_resident a_parentOf a_pathMask (ov_f (ov_sz sg po nc)) a_baseOf a_cursor (ov_f sg) a_first (ov_f (ov_ln po nc)) a_code a_address a_stubOf a_stubCallee a_image a_cell a_owner a_state a_current a_pc a_stepCount a_traceOf a_height a_values a_stack n (nI (i + 1)) := fun hne =>
      ih (i + 1) n (by omega) (by omega) (fun k hk e => by
        by_cases e2 : k = ov_fi po nc j + i
        · rw [e2]; exact hne
        · exact hh k (by omega) e)
    refine And.intro v12 (br_f (by rw [el]; exact nI_ge (by omega) (by omega)) ⟨v12, by rw [ei]; exact vp_in_nI (by omega) (by omega), nm_e (ek_if (d := op (ov_fi po nc j + i) = 7) (by rw [ov_cop G HC hK ei]; exact nI_eq (b := 7) (by omega) (by omega)) (fun e7 => ⟨v12, ?_⟩) (fun e7 => nm_r (nI_1 i) (nxt (fun z => e7 z.1))))⟩)
    refine ek_if (d := bn (ov_fi po nc j + i) < ov_ln po nc j) (by rw [ov_clo G HC hK ei, el]; exact nI_ltI (by omega) (by omega)) (fun e => nm_r (nI_1 i) (nxt (fun z => ?_))) (fun e => h1 ⟨_, hK, e7, ?_⟩)
    · have := z.2; rw [hP] at this; omega
    · rw [hP]; omega
theorem ov_xbt2 (G : ov_PG sc np nc pa sg po op aa bn) (HF : ov_FI a_first po nc np) (HC : ov_CD a_code op aa bn nc) (h1 : (∃ k, k < nc ∧ ov_BT po op bn nc k) → post 1) (h0 : (∀ k, k < nc → ¬ ov_BT po op bn nc k) → post 0) :
    ∀ d j n, j + d = np → d < n → (∀ k, k < nc → po k < j → ¬ ov_BT po op bn nc k) → wX_hasBadTarget_2 post f_maxSegments f_maxProcedures f_room f_maxDepth (nI sc) (nI np) (nI nc) f_linked f_resident a_parentOf a_pathMask (ov_f (ov_sz sg po nc)) a_baseOf a_cursor (ov_f sg) a_first (ov_f (ov_ln po nc)) a_code a_address a_stubOf a_stubCallee a_image a_cell a_owner a_state a_current a_pc a_stepCount a_traceOf a_height a_values a_stack n (nI j) := by
  have h12 := ov_g12 G
  intro d
  induction d with
  | zero =>
    intro j n hj hn hi
    obtain ⟨n, rfl⟩ : ∃ n', n = n' + 1 := ⟨n - 1, by omega⟩
    exact br_t (nI_le (by omega) (by omega)) (h0 (fun k hk => hi k hk (by have := ov_gp G hk; omega)))
  | succ d ih =>
    intro j n hj hn hi
    obtain ⟨n, rfl⟩ : ∃ n', n = n' + 1 := ⟨n - 1, by omega⟩
    have hj' : j < np := by omega
    refine br_f (nI_ge (by omega) (by omega)) (Exists.intro (ov_ln po nc j + 1) (ov_xbt12 G HF HC h1 hj' (fun hh => ?_) (ov_ln po nc j) 0 (ov_ln po nc j + 1) (by omega) (by omega) (fun k hk e => ?_)))
    · exact ih (j + 1) n (by omega) (by omega) (fun k hk e => by
        by_cases e2 : po k = j
        · exact hh k hk e2
        · exact hi k hk (by omega))
    · exfalso
      have hfl := ov_fl_le (po := po) (nc := nc) j
      have := ov_po_of (ov_gM G) (k := k) (by omega)
      rw [e] at this
      omega
theorem ov_xbt (G : ov_PG sc np nc pa sg po op aa bn) (HF : ov_FI a_first po nc np) (HC : ov_CD a_code op aa bn nc) (h1 : (∃ k, k < nc ∧ ov_BT po op bn nc k) → post 1) (h0 : (∀ k, k < nc → ¬ ov_BT po op bn nc k) → post 0) : wpX_hasBadTarget post (f_maxSegments, f_maxProcedures, f_room, f_maxDepth, nI sc, nI np, nI nc, f_linked, f_resident, a_parentOf, a_pathMask, ov_f (ov_sz sg po nc), a_baseOf, a_cursor, ov_f sg, a_first, ov_f (ov_ln po nc), a_code, a_address, a_stubOf, a_stubCallee, a_image, a_cell, a_owner, a_state, a_current, a_pc, a_stepCount, a_traceOf, a_height, a_values, a_stack) :=
  Exists.intro (np + 1) (ov_xbt2 G HF HC h1 h0 np 0 (np + 1) (by omega) (by omega) (fun k _ hk => absurd hk (Nat.not_lt_zero _)))
theorem ov_xbc2 (G : ov_PG sc np nc pa sg po op aa bn) (HC : ov_CD a_code op aa bn nc) (h1 : (∃ k, k < nc ∧ ov_BC op bn np k) → post 1) (h0 : (∀ k, k < nc → ¬ ov_BC op bn np k) → post 0) :
    ∀ d j n, j + d = nc → d < n → (∀ k, k < j → ¬ ov_BC op bn np k) → wX_hasBadCallee_2 post f_maxSegments f_maxProcedures f_room f_maxDepth (nI sc) (nI np) (nI nc) f_linked f_resident a_parentOf a_pathMask (ov_f (ov_sz sg po nc)) a_baseOf a_cursor (ov_f sg) a_first (ov_f (ov_ln po nc)) a_code a_address a_stubOf a_stubCallee a_image a_cell a_owner a_state a_current a_pc a_stepCount a_traceOf a_height a_values a_stack n (nI j) := by
  have h12 := ov_g12 G
  have h128 := ov_g128 G
  intro d
  induction d with
  | zero =>
    intro j n hj hn hi
    obtain ⟨n, rfl⟩ : ∃ n', n = n' + 1 := ⟨n - 1, by omega⟩
    exact br_t (nI_le (by omega) (by omega)) (h0 (fun k hk => hi k (by omega)))
  | succ d ih =>
    intro j n hj hn hi
    obtain ⟨n, rfl⟩ : ∃ n', n = n' + 1 := ⟨n - 1, by omega⟩
    have hj' : j < nc := by omega
    obtain ⟨o1, o2, o3, o4⟩ := ov_gO G hj'
    have vk : vp_in (nI j) 128 := vp_in_nI (by omega) (by omega)
    have nxt : ¬ ov_BC op bn np j → wX_hasBadCallee_2 post f_maxSegments f_maxProcedures f_room f_maxDepth (nI sc) (nI np) (nI nc) f_linked f_resident a_parentOf a_pathMask (ov_f (ov_sz sg po nc)) a_baseOf a_cursor (ov_f sg) a_first (ov_f (ov_ln po nc)) a_code a_address a_stubOf a_stubCallee a_image a_cell a_owner a_state a_current a_pc a_stepCount a_traceOf a_height a_values a_stack n (nI (j + 1)) := fun hne =>
      ih (j + 1) n (by omega) (by omega) (fun p hp => by
        by_cases e : p = j
        · rw [e]; exact hne
        · exact hi p (by omega))
    refine br_f (nI_ge (by omega) (by omega)) ⟨vk, ek_if (d := op j = 8) (by rw [ov_cop G HC hj' rfl]; exact nI_eq (b := 8) (by omega) (by omega)) (fun e8 => ⟨vk, ?_⟩) (fun e8 => nm_r (nI_1 j) (nxt (fun z => e8 z.1)))⟩
    exact ek_if (d := bn j < np) (by rw [ov_clo G HC hj' rfl]; exact nI_ltI (by omega) (by omega)) (fun e => nm_r (nI_1 j) (nxt (fun z => by have := z.2; omega))) (fun e => h1 ⟨j, hj', e8, by omega⟩)
theorem ov_xbc (G : ov_PG sc np nc pa sg po op aa bn) (HC : ov_CD a_code op aa bn nc) (h1 : (∃ k, k < nc ∧ ov_BC op bn np k) → post 1) (h0 : (∀ k, k < nc → ¬ ov_BC op bn np k) → post 0) : wpX_hasBadCallee post (f_maxSegments, f_maxProcedures, f_room, f_maxDepth, nI sc, nI np, nI nc, f_linked, f_resident, a_parentOf, a_pathMask, ov_f (ov_sz sg po nc), a_baseOf, a_cursor, ov_f sg, a_first, ov_f (ov_ln po nc), a_code, a_address, a_stubOf, a_stubCallee, a_image, a_cell, a_owner, a_state, a_current, a_pc, a_stepCount, a_traceOf, a_height, a_values, a_stack) :=
  Exists.intro (nc + 1) (ov_xbc2 G HC h1 h0 nc 0 (nc + 1) (by omega) (by omega) (fun k hk => absurd hk (Nat.not_lt_zero _)))
theorem ov_xlv (G : ov_PG sc np nc pa sg po op aa bn) (HM : ov_PM a_pathMask pa sc) {p q : Nat} (hp : p < np) (hq : q < np) {x y : Int32} (hx : x = nI p) (hy : y = nI q) (h1 : ov_on pa (sg p) (sg q) = false → post 1) (h0 : ov_on pa (sg p) (sg q) = true → post 0) : wpX_isLeaving post (f_maxSegments, f_maxProcedures, f_room, f_maxDepth, nI sc, nI np, nI nc, f_linked, f_resident, a_parentOf, a_pathMask, ov_f (ov_sz sg po nc), a_baseOf, a_cursor, ov_f sg, a_first, ov_f (ov_ln po nc), a_code, a_address, a_stubOf, a_stubCallee, a_image, a_cell, a_owner, a_state, a_current, a_pc, a_stepCount, a_traceOf, a_height, a_values, a_stack) x y := by
  subst hx hy
  have h12 := ov_g12 G
  have h8 := ov_g8 G
  have hsp := ov_gs G hp
  have hsq := ov_gs G hq
  have e1 : ov_f sg (nI p).toNatClampNeg = nI (sg p) := ov_at (by omega)
  have e2 : ov_f sg (nI q).toNatClampNeg = nI (sg q) := ov_at (by omega)
  refine And.intro (vp_in_nI (by omega) (by omega)) ⟨by rw [e1]; exact vp_in_nI (by omega) (by omega), vp_in_nI (by omega) (by omega), ek_if (d := ov_on pa (sg p) (sg q) = false) ?_ h1 (fun z => h0 (eq_true_of_ne_false z))⟩
  rw [e1, e2, nI_clamp (by omega), ov_bit _ (by omega), HM (sg p) hsp (sg q) (by omega)]
end
end
section
/-! the component's layout, against the pure functions -/
def ov_E (pa sg po : Nat → Nat) (nc : Nat) : Nat → Nat := fun s => ov_ba pa (ov_sz sg po nc) s + ov_sz sg po nc s
def ov_BS (bas : Nat → Int32) (pa sg po : Nat → Nat) (nc n : Nat) : Prop := ∀ s, s < n → bas s = nI (ov_ba pa (ov_sz sg po nc) s)
def ov_AD (adr : Nat → Int32) (pa sg po : Nat → Nat) (nc np : Nat) : Prop := ∀ m, m < 2 → ∀ p, p < np → adr (m * 12 + p) = nI (ov_A pa sg po nc m p)
theorem ov_m12 (m p : Nat) : nI m * 12 + nI p = nI (m * 12 + p) := by
  rw [← nI_add, ← pk_mul]; rfl
theorem ov_mx_T {f : Nat → Nat} {n : Nat} (h : f n ≤ ov_mx f n) : ov_mx f (n + 1) = ov_mx f n := if_pos h
theorem ov_mx_F {f : Nat → Nat} {n : Nat} (h : ¬ f n ≤ ov_mx f n) : ov_mx f (n + 1) = f n := if_neg h
section
variable {f_maxSegments f_maxProcedures f_room f_maxDepth f_segmentCount f_procedureCount f_codeCount f_linked f_resident : Int32} {a_parentOf a_pathMask a_sizeOf a_baseOf a_cursor a_segmentOf a_first a_lengthOf a_code a_address a_stubOf a_stubCallee a_image a_cell a_owner a_state a_current a_pc a_stepCount a_traceOf a_height a_values a_stack : Nat → Int32} {sc np nc : Nat} {pa sg po op aa bn : Nat → Nat}
theorem ov_gE (G : ov_PG sc np nc pa sg po op aa bn) (s : Nat) : ov_E pa sg po nc s ≤ 2000 := by
  have h1 := ov_gba G s
  have h2 := ov_gsz G s
  unfold ov_E
  omega
theorem ov_gmx (G : ov_PG sc np nc pa sg po op aa bn) : ∀ n, ov_mx (ov_E pa sg po nc) n ≤ 2000 := fun n => (ov_mx_iff n).mpr (fun s _ => ov_gE G s)
theorem ov_xps45 (G : ov_PG sc np nc pa sg po op aa bn) {post : Int32 → SX → Prop} {J : Int32 → Int32 → (Nat → Int32) → (Nat → Int32) → (Nat → Int32) → (Nat → Int32) → (Nat → Int32) → (Nat → Int32) → (Nat → Int32) → (Nat → Int32) → (Nat → Int32) → (Nat → Int32) → (Nat → Int32) → (Nat → Int32) → (Nat → Int32) → (Nat → Int32) → (Nat → Int32) → (Nat → Int32) → (Nat → Int32) → (Nat → Int32) → (Nat → Int32) → (Nat → Int32) → (Nat → Int32) → (Nat → Int32) → (Nat → Int32) → Prop} {j : Nat} (hj : j < sc) {bas : Nat → Int32} {z : Int32} (hz : z = nI (ov_ba pa (ov_sz sg po nc) j))
    (h : J (nI (ov_mx (ov_E pa sg po nc) (j + 1))) (nI (j + 1)) a_parentOf a_pathMask (ov_f (ov_sz sg po nc)) (upd bas j (nI (ov_ba pa (ov_sz sg po nc) j))) a_cursor (ov_f sg) a_first (ov_f (ov_ln po nc)) a_code a_address a_stubOf a_stubCallee a_image a_cell a_owner a_state a_current a_pc a_stepCount a_traceOf a_height a_values a_stack) :
    wX_placeSegments_45 post J (nI (ov_mx (ov_E pa sg po nc) j)) (nI j) z (nI j) f_maxSegments f_maxProcedures f_room f_maxDepth (nI sc) (nI np) (nI nc) f_linked f_resident a_parentOf a_pathMask (ov_f (ov_sz sg po nc)) bas a_cursor (ov_f sg) a_first (ov_f (ov_ln po nc)) a_code a_address a_stubOf a_stubCallee a_image a_cell a_owner a_state a_current a_pc a_stepCount a_traceOf a_height a_values a_stack := by
  subst hz
  have h8 := ov_g8 G
  have v8 : vp_in (nI j) 8 := vp_in_nI (by omega) (by omega)
  have ec : (nI j).toNatClampNeg = j := nI_clamp (by omega)
  have g1 := ov_gE G j
  have g2 := ov_gmx G j
  refine And.intro v8 (nm_r (e' := upd bas j (nI (ov_ba pa (ov_sz sg po nc) j))) (by rw [ec]) ⟨v8, v8, nm_r (e' := nI (ov_E pa sg po nc j)) ?_ (ek_if (nI_leI (by omega) (by omega)) (fun e => nm_r (nI_1 j) ?_) (fun e => nm_r (nI_1 j) ?_))⟩)
  · rw [ov_at (by omega), ec, pk_us, nI_add]; rfl
  · rw [ov_mx_T e] at h; exact h
  · rw [ov_mx_F e] at h; exact h
theorem ov_xps4 (G : ov_PG sc np nc pa sg po op aa bn) (HP : ov_PA a_parentOf pa sc) {post : Int32 → SX → Prop} (K : ∀ bas, ov_BS bas pa sg po nc sc → post (nI (ov_mx (ov_E pa sg po nc) sc)) (f_maxSegments, f_maxProcedures, f_room, f_maxDepth, nI sc, nI np, nI nc, f_linked, f_resident, a_parentOf, a_pathMask, ov_f (ov_sz sg po nc), bas, a_cursor, ov_f sg, a_first, ov_f (ov_ln po nc), a_code, a_address, a_stubOf, a_stubCallee, a_image, a_cell, a_owner, a_state, a_current, a_pc, a_stepCount, a_traceOf, a_height, a_values, a_stack)) :
    ∀ d j n bas, j + d = sc → d < n → ov_BS bas pa sg po nc j → wX_placeSegments_4 post f_maxSegments f_maxProcedures f_room f_maxDepth (nI sc) (nI np) (nI nc) f_linked f_resident n (nI (ov_mx (ov_E pa sg po nc) j)) (nI j) a_parentOf a_pathMask (ov_f (ov_sz sg po nc)) bas a_cursor (ov_f sg) a_first (ov_f (ov_ln po nc)) a_code a_address a_stubOf a_stubCallee a_image a_cell a_owner a_state a_current a_pc a_stepCount a_traceOf a_height a_values a_stack := by
  have h8 := ov_g8 G
  intro d
  induction d with
  | zero =>
    intro j n bas hj hn hb
    obtain ⟨n, rfl⟩ : ∃ n', n = n' + 1 := ⟨n - 1, by omega⟩
    have e : j = sc := by omega
    rw [e] at hb
    refine br_t (nI_le (by omega) (by omega)) ?_
    rw [e]
    exact K bas hb
  | succ d ih =>
    intro j n bas hj hn hb
    obtain ⟨n, rfl⟩ : ∃ n', n = n' + 1 := ⟨n - 1, by omega⟩
    have hj' : j < sc := by omega
    have ec : (nI j).toNatClampNeg = j := nI_clamp (by omega)
    have hs := ih (j + 1) n (upd bas j (nI (ov_ba pa (ov_sz sg po nc) j))) (by omega) (by omega) (fun s hs => by
      by_cases e : s = j
      · rw [e, pk_us]
      · rw [pk_un e]; exact hb s (by omega))
    refine br_f (nI_ge (by omega) (by omega)) ⟨vp_in_nI (by omega) (by omega), ?_⟩
    by_cases e : j = 0
    · subst e
      refine nm_r (e' := -1) (by rw [ec]; exact HP.1) (br_f (by decide) (ov_xps45 G hj' ?_ hs))
      rw [ov_ba_0]; rfl
    · have hd := ov_gD G j (by omega) hj'
      have vp : vp_in (nI (pa j)) 8 := vp_in_nI (by omega) (by omega)
      refine nm_r (e' := nI (pa j)) (by rw [ec]; exact HP.2 j (by omega) hj') (br_t (nI_pos' (by omega)) ⟨vp, vp, ov_xps45 G hj' ?_ hs⟩)
      rw [ov_at (by omega), nI_clamp (by omega), hb (pa j) hd, nI_add, ov_ba_s (ov_gD G) h8 (by omega) hj']
theorem ov_xps (G : ov_PG sc np nc pa sg po op aa bn) (HP : ov_PA a_parentOf pa sc) {post : Int32 → SX → Prop} (K : ∀ bas, ov_BS bas pa sg po nc sc → post (nI (ov_mx (ov_E pa sg po nc) sc)) (f_maxSegments, f_maxProcedures, f_room, f_maxDepth, nI sc, nI np, nI nc, f_linked, f_resident, a_parentOf, a_pathMask, ov_f (ov_sz sg po nc), bas, a_cursor, ov_f sg, a_first, ov_f (ov_ln po nc), a_code, a_address, a_stubOf, a_stubCallee, a_image, a_cell, a_owner, a_state, a_current, a_pc, a_stepCount, a_traceOf, a_height, a_values, a_stack)) : wpX_placeSegments post (f_maxSegments, f_maxProcedures, f_room, f_maxDepth, nI sc, nI np, nI nc, f_linked, f_resident, a_parentOf, a_pathMask, ov_f (ov_sz sg po nc), a_baseOf, a_cursor, ov_f sg, a_first, ov_f (ov_ln po nc), a_code, a_address, a_stubOf, a_stubCallee, a_image, a_cell, a_owner, a_state, a_current, a_pc, a_stepCount, a_traceOf, a_height, a_values, a_stack) :=
  Exists.intro (sc + 1) (ov_xps4 G HP K sc 0 (sc + 1) a_baseOf (by omega) (by omega) (fun s hs => absurd hs (Nat.not_lt_zero s)))
theorem ov_xpp30 (G : ov_PG sc np nc pa sg po op aa bn) (HF : ov_FI a_first po nc np) {post : SX → Prop} (K : ∀ cur adr, ov_AD adr pa sg po nc np → post (f_maxSegments, f_maxProcedures, f_room, f_maxDepth, nI sc, nI np, nI nc, f_linked, f_resident, a_parentOf, a_pathMask, ov_f (ov_sz sg po nc), a_baseOf, cur, ov_f sg, a_first, ov_f (ov_ln po nc), a_code, adr, a_stubOf, a_stubCallee, a_image, a_cell, a_owner, a_state, a_current, a_pc, a_stepCount, a_traceOf, a_height, a_values, a_stack)) :
    ∀ d j n cur adr, j + d = np → d < n → (∀ s, s < sc → cur s = nI (ov_ba pa (ov_sz sg po nc) s + ov_c sg po nc s j)) → ov_AD adr pa sg po nc j → wX_placeProcedures_30 post f_maxSegments f_maxProcedures f_room f_maxDepth (nI sc) (nI np) (nI nc) f_linked f_resident n (nI j) a_parentOf a_pathMask (ov_f (ov_sz sg po nc)) a_baseOf cur (ov_f sg) a_first (ov_f (ov_ln po nc)) a_code adr a_stubOf a_stubCallee a_image a_cell a_owner a_state a_current a_pc a_stepCount a_traceOf a_height a_values a_stack := by
  have h8 := ov_g8 G
  have h12 := ov_g12 G
  intro d
  induction d with
  | zero =>
    intro j n cur adr hj hn hc ha
    obtain ⟨n, rfl⟩ : ∃ n', n = n' + 1 := ⟨n - 1, by omega⟩
    have e : j = np := by omega
    rw [e] at ha
    exact br_t (nI_le (by omega) (by omega)) (K cur adr ha)
  | succ d ih =>
    intro j n cur adr hj hn hc ha
    obtain ⟨n, rfl⟩ : ∃ n', n = n' + 1 := ⟨n - 1, by omega⟩
    have hj' : j < np := by omega
    have hsg := ov_gs G hj'
    have ec : (nI j).toNatClampNeg = j := nI_clamp (by omega)
    have es : (nI (sg j)).toNatClampNeg = sg j := nI_clamp (by omega)
    have v12 : vp_in (nI j) 12 := vp_in_nI (by omega) (by omega)
    have v8 : vp_in (nI (sg j)) 8 := vp_in_nI (by omega) (by omega)
    have e0 : 0 + nI j = nI j := Int32.zero_add _
    have e12 : 12 + nI j = nI (12 + j) := nI_add 12 j
    have ec12 : (nI (12 + j)).toNatClampNeg = 12 + j := nI_clamp (by omega)
    have hs := ih (j + 1) n (upd cur (sg j) (nI (ov_ba pa (ov_sz sg po nc) (sg j) + ov_c sg po nc (sg j) (j + 1)))) (upd (upd adr j (nI (ov_A pa sg po nc 0 j))) (12 + j) (nI (ov_A pa sg po nc 1 j))) (by omega) (by omega) (fun s hs => by
      by_cases e : s = sg j
      · rw [e, pk_us]
      · rw [pk_un e, hc s hs, ov_c_sF (fun z => e z.symm)]) (fun m hm p hp => by
      rcases (by omega : m = 0 ∨ m = 1) with em | em
      · subst em
        by_cases e : p = j
        · subst e
          rw [pk_un (by omega), show 0 * 12 + p = p from by omega, pk_us]
        · rw [pk_un (by omega), pk_un (by omega)]
          exact ha 0 (by omega) p (by omega)
      · subst em
        by_cases e : p = j
        · subst e
          rw [show 1 * 12 + p = 12 + p from by omega, pk_us]
        · rw [pk_un (by omega), pk_un (by omega)]
          exact ha 1 (by omega) p (by omega))
    refine br_f (nI_ge (by omega) (by omega)) ⟨v12, nm_r (ov_at (by omega)) ⟨v8, by rw [e0]; exact vp_in_nI (by omega) (by omega), nm_r (e' := upd adr j (nI (ov_A pa sg po nc 0 j))) ?_ ⟨v12, by rw [e12]; exact vp_in_nI (by omega) (by omega), nm_r (e' := upd (upd adr j (nI (ov_A pa sg po nc 0 j))) (12 + j) (nI (ov_A pa sg po nc 1 j))) ?_ ⟨v8, v12, v8, nm_r (e' := upd cur (sg j) (nI (ov_ba pa (ov_sz sg po nc) (sg j) + ov_c sg po nc (sg j) (j + 1)))) ?_ (nm_r (nI_1 j) hs)⟩⟩⟩⟩
    · rw [e0, ec, es, hc (sg j) hsg, ov_A0]
    · rw [e12, ec12, ec, HF j hj', ov_A1]
    · rw [es, ov_at (by omega), hc (sg j) hsg, nI_add, ov_c_sT rfl, Nat.add_assoc]
theorem ov_xpp2 (G : ov_PG sc np nc pa sg po op aa bn) (HB : ov_BS a_baseOf pa sg po nc sc) {post : SX → Prop} (K : ∀ cur, (∀ s, s < sc → cur s = nI (ov_ba pa (ov_sz sg po nc) s)) → ∃ n30 : Nat, wX_placeProcedures_30 post f_maxSegments f_maxProcedures f_room f_maxDepth (nI sc) (nI np) (nI nc) f_linked f_resident n30 0 a_parentOf a_pathMask (ov_f (ov_sz sg po nc)) a_baseOf cur (ov_f sg) a_first (ov_f (ov_ln po nc)) a_code a_address a_stubOf a_stubCallee a_image a_cell a_owner a_state a_current a_pc a_stepCount a_traceOf a_height a_values a_stack) :
    ∀ d j n cur, j + d = sc → d < n → (∀ s, s < j → cur s = nI (ov_ba pa (ov_sz sg po nc) s)) → wX_placeProcedures_2 post f_maxSegments f_maxProcedures f_room f_maxDepth (nI sc) (nI np) (nI nc) f_linked f_resident n (nI j) a_parentOf a_pathMask (ov_f (ov_sz sg po nc)) a_baseOf cur (ov_f sg) a_first (ov_f (ov_ln po nc)) a_code a_address a_stubOf a_stubCallee a_image a_cell a_owner a_state a_current a_pc a_stepCount a_traceOf a_height a_values a_stack := by
  have h8 := ov_g8 G
  intro d
  induction d with
  | zero =>
    intro j n cur hj hn hc
    obtain ⟨n, rfl⟩ : ∃ n', n = n' + 1 := ⟨n - 1, by omega⟩
    exact br_t (nI_le (by omega) (by omega)) (K cur (fun s hs => hc s (by omega)))
  | succ d ih =>
    intro j n cur hj hn hc
    obtain ⟨n, rfl⟩ : ∃ n', n = n' + 1 := ⟨n - 1, by omega⟩
    have ec : (nI j).toNatClampNeg = j := nI_clamp (by omega)
    have v8 : vp_in (nI j) 8 := vp_in_nI (by omega) (by omega)
    refine br_f (nI_ge (by omega) (by omega)) ⟨v8, v8, nm_r (e' := upd cur j (nI (ov_ba pa (ov_sz sg po nc) j))) (by rw [ec, HB j (by omega)]) (nm_r (nI_1 j) (ih (j + 1) n _ (by omega) (by omega) (fun s hs => ?_)))⟩
    by_cases e : s = j
    · rw [e, pk_us]
    · rw [pk_un e]; exact hc s (by omega)
theorem ov_xpp (G : ov_PG sc np nc pa sg po op aa bn) (HF : ov_FI a_first po nc np) (HB : ov_BS a_baseOf pa sg po nc sc) {post : SX → Prop} (K : ∀ cur adr, ov_AD adr pa sg po nc np → post (f_maxSegments, f_maxProcedures, f_room, f_maxDepth, nI sc, nI np, nI nc, f_linked, f_resident, a_parentOf, a_pathMask, ov_f (ov_sz sg po nc), a_baseOf, cur, ov_f sg, a_first, ov_f (ov_ln po nc), a_code, adr, a_stubOf, a_stubCallee, a_image, a_cell, a_owner, a_state, a_current, a_pc, a_stepCount, a_traceOf, a_height, a_values, a_stack)) : wpX_placeProcedures post (f_maxSegments, f_maxProcedures, f_room, f_maxDepth, nI sc, nI np, nI nc, f_linked, f_resident, a_parentOf, a_pathMask, ov_f (ov_sz sg po nc), a_baseOf, a_cursor, ov_f sg, a_first, ov_f (ov_ln po nc), a_code, a_address, a_stubOf, a_stubCallee, a_image, a_cell, a_owner, a_state, a_current, a_pc, a_stepCount, a_traceOf, a_height, a_values, a_stack) :=
  Exists.intro (sc + 1) (ov_xpp2 G HB (fun cur hc => Exists.intro (np + 1) (ov_xpp30 G HF K np 0 (np + 1) cur a_address (by omega) (by omega) (fun s hs => by rw [ov_c_0]; exact hc s hs) (fun m _ p hp => absurd hp (Nat.not_lt_zero p)))) sc 0 (sc + 1) a_cursor (by omega) (by omega) (fun s hs => absurd hs (Nat.not_lt_zero s)))
/-! stubs -/
def ov_SM (mask : Int32) (pa sg po op bn : Nat → Nat) (n : Nat) : Prop := ∀ q, q < 31 → bt mask q = ov_hs pa sg po op bn n q
theorem ov_hs_s (k q : Nat) : ov_hs pa sg po op bn (k + 1) q = (ov_hs pa sg po op bn k q || decide (op k = 8 ∧ bn k = q ∧ ov_on pa (sg (po k)) (sg q) = false)) := rfl
theorem ov_hs_n {k q : Nat} (h : ¬ (op k = 8 ∧ bn k = q ∧ ov_on pa (sg (po k)) (sg q) = false)) : ov_hs pa sg po op bn (k + 1) q = ov_hs pa sg po op bn k q := by
  rw [ov_hs_s, decide_eq_false h, Bool.or_false]
theorem ov_xsm14 (G : ov_PG sc np nc pa sg po op aa bn) (HF : ov_FI a_first po nc np) (HC : ov_CD a_code op aa bn nc) (HM : ov_PM a_pathMask pa sc) (C : ∀ k, k < nc → ¬ ov_BC op bn np k) {post : Int32 → Prop} {J : Int32 → Int32 → Prop} {j : Nat} (hj : j < np)
    (hJ : ∀ mask, ov_SM mask pa sg po op bn (ov_fi po nc (j + 1)) → J mask (nI (j + 1))) :
    ∀ d i n mask, i + d = ov_ln po nc j → d < n → ov_SM mask pa sg po op bn (ov_fi po nc j + i) → wX_stubMask_14 post J (nI j) f_maxSegments f_maxProcedures f_room f_maxDepth (nI sc) (nI np) (nI nc) f_linked f_resident a_parentOf a_pathMask (ov_f (ov_sz sg po nc)) a_baseOf a_cursor (ov_f sg) a_first (ov_f (ov_ln po nc)) a_code a_address a_stubOf a_stubCallee a_image a_cell a_owner a_state a_current a_pc a_stepCount a_traceOf a_height a_values a_stack n mask (nI i) := by
  have h128 := ov_g128 G
  have h12 := ov_g12 G
  have h8 := ov_g8 G
  have hfl := ov_fl_le (po := po) (nc := nc) j
  have el : ov_f (ov_ln po nc) (nI j).toNatClampNeg = nI (ov_ln po nc j) := ov_at (by omega)
  have v12 : vp_in (nI j) 12 := vp_in_nI (by omega) (by omega)
  intro d
  induction d with
  | zero =>
    intro i n mask hi hn hm
    obtain ⟨n, rfl⟩ : ∃ n', n = n' + 1 := ⟨n - 1, by omega⟩
    refine And.intro v12 (br_t (by rw [el]; exact nI_le (by omega) (by omega)) (nm_r (nI_1 j) (hJ mask ?_)))
    rw [ov_fi_s, show ov_ln po nc j = i from by omega]
    exact hm
  | succ d ih =>
    intro i n mask hi hn hm
    obtain ⟨n, rfl⟩ : ∃ n', n = n' + 1 := ⟨n - 1, by omega⟩
    have hil : i < ov_ln po nc j := by omega
    obtain ⟨hK, hP⟩ := ov_po_at (ov_gM G) hil
    obtain ⟨o1, o2, o3, o4⟩ := ov_gO G hK
    have ei := ov_fia G HF hj i
    have nxt : ∀ mask', ov_SM mask' pa sg po op bn (ov_fi po nc j + i + 1) → wX_stubMask_14 post J (nI j) f_maxSegments f_maxProcedures f_room f_maxDepth (nI sc) (nI np) (nI nc) f_linked f_resident a_parentOf a_pathMask (ov_f (ov_sz sg po nc)) a_baseOf a_cursor (ov_f sg) a_first (ov_f (ov_ln po nc)) a_code a_address a_stubOf a_stubCallee a_image a_cell a_owner a_state a_current a_pc a_stepCount a_traceOf a_height a_values a_stack n mask' (nI (i + 1)) := fun mask' hm' =>
      ih (i + 1) n mask' (by omega) (by omega) hm'
    refine And.intro v12 (br_f (by rw [el]; exact nI_ge (by omega) (by omega)) ⟨v12, by rw [ei]; exact vp_in_nI (by omega) (by omega), nm_e (ek_if (d := op (ov_fi po nc j + i) = 8) (by rw [ov_cop G HC hK ei]; exact nI_eq (b := 8) (by omega) (by omega)) (fun e8 => ?_) (fun e8 => nm_r (nI_1 i) (nxt mask (fun q hq => ?_))))⟩)
    · have hb : bn (ov_fi po nc j + i) < np := by
        apply Nat.lt_of_not_le
        intro z
        exact C _ hK ⟨e8, z⟩
      have elo := ov_clo G HC hK ei
      refine ov_xlv G HM hj hb rfl elo (fun e => br_f (by decide) (nm_r (e' := mask ||| ((1 : Int32) <<< (nI (bn (ov_fi po nc j + i)) &&& 31))) (by rw [elo]) (nm_r (nI_1 i) (nxt _ (fun q hq => ?_))))) (fun e => br_t rfl (nm_r (nI_1 i) (nxt mask (fun q hq => ?_))))
      · rw [b_or, hm q hq, ov_bit1 _ (by omega) q hq, ov_hs_s]
        congr 1
        apply decide_eq_decide.mpr
        constructor
        · intro z; subst z; exact ⟨e8, rfl, by rw [hP]; exact e⟩
        · intro z; exact z.2.1.symm
      · rw [hm q hq, ov_hs_n]
        intro z
        rw [hP] at z
        rw [← z.2.1, e] at z
        exact absurd z.2.2 (by decide)
    · rw [hm q hq, ov_hs_n]
      intro z
      exact e8 z.1
theorem ov_xsm4 (G : ov_PG sc np nc pa sg po op aa bn) (HF : ov_FI a_first po nc np) (HC : ov_CD a_code op aa bn nc) (HM : ov_PM a_pathMask pa sc) (C : ∀ k, k < nc → ¬ ov_BC op bn np k) {post : Int32 → Prop} (h : ∀ mask, ov_SM mask pa sg po op bn nc → post mask) :
    ∀ d j n mask, j + d = np → d < n → ov_SM mask pa sg po op bn (ov_fi po nc j) → wX_stubMask_4 post f_maxSegments f_maxProcedures f_room f_maxDepth (nI sc) (nI np) (nI nc) f_linked f_resident a_parentOf a_pathMask (ov_f (ov_sz sg po nc)) a_baseOf a_cursor (ov_f sg) a_first (ov_f (ov_ln po nc)) a_code a_address a_stubOf a_stubCallee a_image a_cell a_owner a_state a_current a_pc a_stepCount a_traceOf a_height a_values a_stack n mask (nI j) := by
  have h12 := ov_g12 G
  intro d
  induction d with
  | zero =>
    intro j n mask hj hn hm
    obtain ⟨n, rfl⟩ : ∃ n', n = n' + 1 := ⟨n - 1, by omega⟩
    refine br_t (nI_le (by omega) (by omega)) (h mask ?_)
    rw [show j = np from by omega, ov_fi_np G.2.2.2.1] at hm
    exact hm
  | succ d ih =>
    intro j n mask hj hn hm
    obtain ⟨n, rfl⟩ : ∃ n', n = n' + 1 := ⟨n - 1, by omega⟩
    exact br_f (nI_ge (by omega) (by omega)) (Exists.intro (ov_ln po nc j + 1) (ov_xsm14 G HF HC HM C (by omega) (fun mask' hm' => ih (j + 1) n mask' (by omega) (by omega) hm') (ov_ln po nc j) 0 (ov_ln po nc j + 1) mask (by omega) (by omega) hm))
theorem ov_xsm (G : ov_PG sc np nc pa sg po op aa bn) (HF : ov_FI a_first po nc np) (HC : ov_CD a_code op aa bn nc) (HM : ov_PM a_pathMask pa sc) (C : ∀ k, k < nc → ¬ ov_BC op bn np k) {post : Int32 → Prop} (h : ∀ mask, ov_SM mask pa sg po op bn nc → post mask) : wpX_stubMask post (f_maxSegments, f_maxProcedures, f_room, f_maxDepth, nI sc, nI np, nI nc, f_linked, f_resident, a_parentOf, a_pathMask, ov_f (ov_sz sg po nc), a_baseOf, a_cursor, ov_f sg, a_first, ov_f (ov_ln po nc), a_code, a_address, a_stubOf, a_stubCallee, a_image, a_cell, a_owner, a_state, a_current, a_pc, a_stepCount, a_traceOf, a_height, a_values, a_stack) :=
  Exists.intro (np + 1) (ov_xsm4 G HF HC HM C h np 0 (np + 1) 0 (by omega) (by omega) (fun q _ => by rw [ov_fi_0, b_0]; rfl))
def ov_SO (sto : Nat → Int32) (pa sg po op bn : Nat → Nat) (nc n : Nat) : Prop := ∀ p, p < n → (ov_hs pa sg po op bn nc p = true → sto p = nI (ov_sn pa sg po op bn nc p)) ∧ (ov_hs pa sg po op bn nc p = false → sto p = -1)
def ov_SC (stc : Nat → Int32) (pa sg po op bn : Nat → Nat) (nc n : Nat) : Prop := ∀ p, p < n → ov_hs pa sg po op bn nc p = true → stc (ov_sn pa sg po op bn nc p) = nI p
theorem ov_xns9 (G : ov_PG sc np nc pa sg po op aa bn) {mask : Int32} (HS : ov_SM mask pa sg po op bn nc) {post : SX → Prop} (K : ∀ sto stc, ov_SO sto pa sg po op bn nc np → ov_SC stc pa sg po op bn nc np → post (f_maxSegments, f_maxProcedures, f_room, f_maxDepth, nI sc, nI np, nI nc, f_linked, f_resident, a_parentOf, a_pathMask, ov_f (ov_sz sg po nc), a_baseOf, a_cursor, ov_f sg, a_first, ov_f (ov_ln po nc), a_code, a_address, sto, stc, a_image, a_cell, a_owner, a_state, a_current, a_pc, a_stepCount, a_traceOf, a_height, a_values, a_stack)) :
    ∀ d j n sto stc, j + d = np → d < n → ov_SO sto pa sg po op bn nc j → ov_SC stc pa sg po op bn nc j → wX_numberStubs_9 post mask f_maxSegments f_maxProcedures f_room f_maxDepth (nI sc) (nI np) (nI nc) f_linked f_resident n (nI (ov_sn pa sg po op bn nc j)) (nI j) a_parentOf a_pathMask (ov_f (ov_sz sg po nc)) a_baseOf a_cursor (ov_f sg) a_first (ov_f (ov_ln po nc)) a_code a_address sto stc a_image a_cell a_owner a_state a_current a_pc a_stepCount a_traceOf a_height a_values a_stack := by
  have h12 := ov_g12 G
  intro d
  induction d with
  | zero =>
    intro j n sto stc hj hn h1 h2
    obtain ⟨n, rfl⟩ : ∃ n', n = n' + 1 := ⟨n - 1, by omega⟩
    have e : j = np := by omega
    rw [e] at h1 h2
    exact br_t (nI_le (by omega) (by omega)) (K sto stc h1 h2)
  | succ d ih =>
    intro j n sto stc hj hn h1 h2
    obtain ⟨n, rfl⟩ : ∃ n', n = n' + 1 := ⟨n - 1, by omega⟩
    have hsn := ov_gsn (pa := pa) (sg := sg) (po := po) (op := op) (bn := bn) (nc := nc) j
    have ec : (nI j).toNatClampNeg = j := nI_clamp (by omega)
    have v12 : vp_in (nI j) 12 := vp_in_nI (by omega) (by omega)
    refine br_f (nI_ge (by omega) (by omega)) ⟨v12, nm_r (e' := upd sto j (-1)) (by rw [ec]) (ek_if (d := ov_hs pa sg po op bn nc j = false) (by rw [ov_bit _ (by omega), HS j (by omega)]) (fun e => nm_r (nI_1 j) ?_) (fun e => ?_))⟩
    · have h3 := ih (j + 1) n (upd sto j (-1)) stc (by omega) (by omega) (fun p hp => by
        by_cases e2 : p = j
        · rw [e2, pk_us]; exact ⟨fun z => by rw [e] at z; exact absurd z (by decide), fun _ => rfl⟩
        · rw [pk_un e2]; exact h1 p (by omega)) (fun p hp hh => by
        by_cases e2 : p = j
        · rw [e2, e] at hh; exact absurd hh (by decide)
        · exact h2 p (by omega) hh)
      have e3 : ov_sn pa sg po op bn nc (j + 1) = ov_sn pa sg po op bn nc j := ov_cnF (by rw [e]; decide)
      rw [e3] at h3
      exact h3
    · have e1 : ov_hs pa sg po op bn nc j = true := eq_true_of_ne_false e
      have h3 := ih (j + 1) n (upd (upd sto j (-1)) j (nI (ov_sn pa sg po op bn nc j))) (upd stc (ov_sn pa sg po op bn nc j) (nI j)) (by omega) (by omega) (fun p hp => by
        by_cases e2 : p = j
        · rw [e2, pk_us]; exact ⟨fun _ => rfl, fun z => absurd z e⟩
        · rw [pk_un e2, pk_un e2]; exact h1 p (by omega)) (fun p hp hh => by
        by_cases e2 : p = j
        · rw [e2, pk_us]
        · have hlt : ov_sn pa sg po op bn nc p < ov_sn pa sg po op bn nc j := ov_cn_lt (by omega) hh
          rw [pk_un (by omega)]; exact h2 p (by omega) hh)
      have e3 : ov_sn pa sg po op bn nc (j + 1) = ov_sn pa sg po op bn nc j + 1 := ov_cnT e1
      rw [e3] at h3
      exact ⟨v12, nm_r (e' := upd (upd sto j (-1)) j (nI (ov_sn pa sg po op bn nc j))) (by rw [ec]) ⟨vp_in_nI (by omega) (by omega), nm_r (e' := upd stc (ov_sn pa sg po op bn nc j) (nI j)) (by rw [nI_clamp (by omega)]) (nm_r (nI_1 _) (nm_r (nI_1 j) h3))⟩⟩
theorem ov_xns (G : ov_PG sc np nc pa sg po op aa bn) (HF : ov_FI a_first po nc np) (HC : ov_CD a_code op aa bn nc) (HM : ov_PM a_pathMask pa sc) (C : ∀ k, k < nc → ¬ ov_BC op bn np k) {post : SX → Prop} (K : ∀ sto stc, ov_SO sto pa sg po op bn nc np → ov_SC stc pa sg po op bn nc np → post (f_maxSegments, f_maxProcedures, f_room, f_maxDepth, nI sc, nI np, nI nc, f_linked, f_resident, a_parentOf, a_pathMask, ov_f (ov_sz sg po nc), a_baseOf, a_cursor, ov_f sg, a_first, ov_f (ov_ln po nc), a_code, a_address, sto, stc, a_image, a_cell, a_owner, a_state, a_current, a_pc, a_stepCount, a_traceOf, a_height, a_values, a_stack)) : wpX_numberStubs post (f_maxSegments, f_maxProcedures, f_room, f_maxDepth, nI sc, nI np, nI nc, f_linked, f_resident, a_parentOf, a_pathMask, ov_f (ov_sz sg po nc), a_baseOf, a_cursor, ov_f sg, a_first, ov_f (ov_ln po nc), a_code, a_address, a_stubOf, a_stubCallee, a_image, a_cell, a_owner, a_state, a_current, a_pc, a_stepCount, a_traceOf, a_height, a_values, a_stack) :=
  ov_xsm G HF HC HM C (fun mask HS => Exists.intro (np + 1) (ov_xns9 G HS K np 0 (np + 1) a_stubOf a_stubCallee (by omega) (by omega) (fun p hp => absurd hp (Nat.not_lt_zero p)) (fun p hp => absurd hp (Nat.not_lt_zero p))))
end
end
section
/-! the component: linked words and relocation -/
def ov_RL (img cel own : Nat → Int32) (pa sg po op aa bn : Nat → Nat) (nc n : Nat) : Prop := ∀ k, k < n → img k = nI (ov_W pa sg po op aa bn nc 0 k) ∧ cel (64 + k) = nI (ov_W pa sg po op aa bn nc 1 k) ∧ own (64 + k) = nI (po k)
section
variable {f_maxSegments f_maxProcedures f_room f_maxDepth f_segmentCount f_procedureCount f_codeCount f_linked f_resident : Int32} {a_parentOf a_pathMask a_sizeOf a_baseOf a_cursor a_segmentOf a_first a_lengthOf a_code a_address a_stubOf a_stubCallee a_image a_cell a_owner a_state a_current a_pc a_stepCount a_traceOf a_height a_values a_stack : Nat → Int32} {sc np nc : Nat} {pa sg po op aa bn : Nat → Nat}
theorem ov_ad12 (G : ov_PG sc np nc pa sg po op aa bn) (HA : ov_AD a_address pa sg po nc np) {m p : Nat} (hm : m < 2) (hp : p < np) : vp_in (nI m * 12 + nI p) 24 ∧ a_address (nI m * 12 + nI p).toNatClampNeg = nI (ov_A pa sg po nc m p) := by
  have h12 := ov_g12 G
  rw [ov_m12, nI_clamp (by omega)]
  exact ⟨vp_in_nI (by omega) (by omega), HA m hm p hp⟩
theorem ov_xlw68 (G : ov_PG sc np nc pa sg po op aa bn) (HA : ov_AD a_address pa sg po nc np) {post : Int32 → Prop} {m q : Nat} (hm : m < 2) (hq : q < np) (h : post (nI (524288 + ov_A pa sg po nc m q))) : wX_linkedWord_68 post (nI m) (nI q) f_maxSegments f_maxProcedures f_room f_maxDepth (nI sc) (nI np) (nI nc) f_linked f_resident a_parentOf a_pathMask (ov_f (ov_sz sg po nc)) a_baseOf a_cursor (ov_f sg) a_first (ov_f (ov_ln po nc)) a_code a_address a_stubOf a_stubCallee a_image a_cell a_owner a_state a_current a_pc a_stepCount a_traceOf a_height a_values a_stack := by
  obtain ⟨h1, h2⟩ := ov_ad12 G HA hm hq
  refine And.intro h1 ?_
  rw [h2]
  have e3 : (524288 : Int32) + nI (ov_A pa sg po nc m q) = nI (524288 + ov_A pa sg po nc m q) := by
    rw [← nI_add]; rfl
  rw [e3]
  exact h
theorem ov_xlw (G : ov_PG sc np nc pa sg po op aa bn) (HM : ov_PM a_pathMask pa sc) (HA : ov_AD a_address pa sg po nc np) (HO : ov_SO a_stubOf pa sg po op bn nc np) (HC : ov_CD a_code op aa bn nc) (C : ∀ k, k < nc → ¬ ov_BC op bn np k) {post : Int32 → Prop} {m k : Nat} (hm : m < 2) (hk : k < nc) {x y z : Int32} (hx : x = nI m) (hy : y = nI (po k)) (hz : z = a_code k) (h : post (nI (ov_W pa sg po op aa bn nc m k))) : wpX_linkedWord post (f_maxSegments, f_maxProcedures, f_room, f_maxDepth, nI sc, nI np, nI nc, f_linked, f_resident, a_parentOf, a_pathMask, ov_f (ov_sz sg po nc), a_baseOf, a_cursor, ov_f sg, a_first, ov_f (ov_ln po nc), a_code, a_address, a_stubOf, a_stubCallee, a_image, a_cell, a_owner, a_state, a_current, a_pc, a_stepCount, a_traceOf, a_height, a_values, a_stack) x y z := by
  have h12 := ov_g12 G
  have hpo := ov_gp G hk
  obtain ⟨o1, o2, o3, o4⟩ := ov_gO G hk
  have h128 := ov_g128 G
  subst hx hy
  have ez : z = nI (op k * 65536 + aa k * 256 + bn k) := by rw [hz]; exact HC k hk
  subst ez
  refine nm_r (e' := nI (op k)) (by rw [ov_w16 (by omega), ov_dop o2 o3]) (ek_if (nI_eq (b := 7) (by omega) (by omega)) (fun e7 => ?_) (fun e7 => ek_if (nI_eq (b := 8) (by omega) (by omega)) (fun e8 => ?_) (fun e8 => ?_)))
  · obtain ⟨h1, h2⟩ := ov_ad12 G HA hm hpo
    refine ⟨h1, ?_⟩
    rw [h2, nI_add]
    rw [ov_W7 e7] at h
    have e3 : op k * 65536 + aa k * 256 + bn k + ov_A pa sg po nc m (po k) = 458752 + aa k * 256 + (ov_A pa sg po nc m (po k) + bn k) := by
      rw [e7]; omega
    rw [e3]
    exact h
  · have hb : bn k < np := by
      apply Nat.lt_of_not_le
      intro z
      exact C _ hk ⟨e8, z⟩
    refine nm_r (e' := nI (bn k)) (by rw [ov_w0 (by omega), ov_dlo o3]) ?_
    rcases (by omega : m = 0 ∨ m = 1) with em | em
    · subst em
      refine br_t rfl (ov_xlv G HM hpo hb rfl rfl (fun e => br_f (by decide) ⟨vp_in_nI (by omega) (by omega), ?_⟩) (fun e => br_t rfl (ov_xlw68 G HA hm hb ?_)))
      · rw [ov_W8s e8 ⟨rfl, e⟩] at h
        rw [nI_clamp (by omega), (HO (bn k) hb).1 (ov_hs_iff.mpr ⟨k, hk, e8, rfl, e⟩)]
        have e3 : (655360 : Int32) + nI (ov_sn pa sg po op bn nc (bn k)) = nI (655360 + ov_sn pa sg po op bn nc (bn k)) := by
          rw [← nI_add]; rfl
        rw [e3]
        exact h
      · rw [ov_W8 e8 (fun z => by rw [z.2] at e; exact absurd e (by decide))] at h
        exact h
    · subst em
      rw [ov_W8 e8 (fun z => by omega)] at h
      exact br_f (by decide) (ov_xlw68 G HA hm hb h)
  · rw [ov_Wo e7 e8] at h
    exact h
theorem ov_xrl12 (G : ov_PG sc np nc pa sg po op aa bn) (HF : ov_FI a_first po nc np) (HM : ov_PM a_pathMask pa sc) (HA : ov_AD a_address pa sg po nc np) (HO : ov_SO a_stubOf pa sg po op bn nc np) (HC : ov_CD a_code op aa bn nc) (C : ∀ k, k < nc → ¬ ov_BC op bn np k) {post : SX → Prop} {J : Int32 → (Nat → Int32) → (Nat → Int32) → (Nat → Int32) → (Nat → Int32) → (Nat → Int32) → (Nat → Int32) → (Nat → Int32) → (Nat → Int32) → (Nat → Int32) → (Nat → Int32) → (Nat → Int32) → (Nat → Int32) → (Nat → Int32) → (Nat → Int32) → (Nat → Int32) → (Nat → Int32) → (Nat → Int32) → (Nat → Int32) → (Nat → Int32) → (Nat → Int32) → (Nat → Int32) → (Nat → Int32) → (Nat → Int32) → Prop} {j : Nat} (hj : j < np)
    (hJ : ∀ img cel own, ov_RL img cel own pa sg po op aa bn nc (ov_fi po nc (j + 1)) → J (nI (j + 1)) a_parentOf a_pathMask (ov_f (ov_sz sg po nc)) a_baseOf a_cursor (ov_f sg) a_first (ov_f (ov_ln po nc)) a_code a_address a_stubOf a_stubCallee img cel own a_state a_current a_pc a_stepCount a_traceOf a_height a_values a_stack) :
    ∀ d i n img cel own, i + d = ov_ln po nc j → d < n → ov_RL img cel own pa sg po op aa bn nc (ov_fi po nc j + i) → wX_relocate_12 post J (nI j) f_maxSegments f_maxProcedures f_room f_maxDepth (nI sc) (nI np) (nI nc) f_linked f_resident n (nI i) a_parentOf a_pathMask (ov_f (ov_sz sg po nc)) a_baseOf a_cursor (ov_f sg) a_first (ov_f (ov_ln po nc)) a_code a_address a_stubOf a_stubCallee img cel own a_state a_current a_pc a_stepCount a_traceOf a_height a_values a_stack := by
  have h128 := ov_g128 G
  have h12 := ov_g12 G
  have hfl := ov_fl_le (po := po) (nc := nc) j
  have el : ov_f (ov_ln po nc) (nI j).toNatClampNeg = nI (ov_ln po nc j) := ov_at (by omega)
  have v12 : vp_in (nI j) 12 := vp_in_nI (by omega) (by omega)
  intro d
  induction d with
  | zero =>
    intro i n img cel own hi hn hm
    obtain ⟨n, rfl⟩ : ∃ n', n = n' + 1 := ⟨n - 1, by omega⟩
    refine And.intro v12 (br_t (by rw [el]; exact nI_le (by omega) (by omega)) (nm_r (nI_1 j) (hJ img cel own ?_)))
    rw [ov_fi_s, show ov_ln po nc j = i from by omega]
    exact hm
  | succ d ih =>
    intro i n img cel own hi hn hm
    obtain ⟨n, rfl⟩ : ∃ n', n = n' + 1 := ⟨n - 1, by omega⟩
    have hil : i < ov_ln po nc j := by omega
    obtain ⟨hK, hP⟩ := ov_po_at (ov_gM G) hil
    have ei := ov_fia G HF hj i
    have ec : (nI (ov_fi po nc j + i)).toNatClampNeg = ov_fi po nc j + i := nI_clamp (by omega)
    have vk : vp_in (nI (ov_fi po nc j + i)) 128 := vp_in_nI (by omega) (by omega)
    have e64 : 64 + nI (ov_fi po nc j + i) = nI (64 + (ov_fi po nc j + i)) := nI_add 64 _
    have ec64 : (nI (64 + (ov_fi po nc j + i))).toNatClampNeg = 64 + (ov_fi po nc j + i) := nI_clamp (by omega)
    have v64 : vp_in (64 + nI (ov_fi po nc j + i)) 192 := by rw [e64]; exact vp_in_nI (by omega) (by omega)
    have hs := ih (i + 1) n (upd img (ov_fi po nc j + i) (nI (ov_W pa sg po op aa bn nc 0 (ov_fi po nc j + i)))) (upd cel (64 + (ov_fi po nc j + i)) (nI (ov_W pa sg po op aa bn nc 1 (ov_fi po nc j + i)))) (upd own (64 + (ov_fi po nc j + i)) (nI j)) (by omega) (by omega) (fun k hk => by
      by_cases e : k = ov_fi po nc j + i
      · rw [e, pk_us, pk_us, pk_us, hP]; exact ⟨rfl, rfl, rfl⟩
      · rw [pk_un e, pk_un (by omega), pk_un (by omega)]
        exact hm k (by omega))
    refine And.intro v12 (br_f (by rw [el]; exact nI_ge (by omega) (by omega)) ⟨v12, nm_r ei ⟨vk, ?_⟩⟩)
    refine ov_xlw G HM HA HO HC C (m := 0) (k := ov_fi po nc j + i) (by omega) hK rfl (by rw [hP]) (by rw [ec]) ⟨vk, nm_r (e' := upd img (ov_fi po nc j + i) (nI (ov_W pa sg po op aa bn nc 0 (ov_fi po nc j + i)))) (by rw [ec]) ⟨vk, ?_⟩⟩
    refine ov_xlw G HM HA HO HC C (m := 1) (k := ov_fi po nc j + i) (by omega) hK rfl (by rw [hP]) (by rw [ec]) ⟨v64, nm_r (e' := upd cel (64 + (ov_fi po nc j + i)) (nI (ov_W pa sg po op aa bn nc 1 (ov_fi po nc j + i)))) (by rw [e64, ec64]) ⟨v64, nm_r (e' := upd own (64 + (ov_fi po nc j + i)) (nI j)) (by rw [e64, ec64]) (nm_r (nI_1 i) hs)⟩⟩
theorem ov_xrl2 (G : ov_PG sc np nc pa sg po op aa bn) (HF : ov_FI a_first po nc np) (HM : ov_PM a_pathMask pa sc) (HA : ov_AD a_address pa sg po nc np) (HO : ov_SO a_stubOf pa sg po op bn nc np) (HC : ov_CD a_code op aa bn nc) (C : ∀ k, k < nc → ¬ ov_BC op bn np k) {post : SX → Prop}
    (K : ∀ img cel own, ov_RL img cel own pa sg po op aa bn nc nc → post (f_maxSegments, f_maxProcedures, f_room, f_maxDepth, nI sc, nI np, nI nc, f_linked, f_resident, a_parentOf, a_pathMask, ov_f (ov_sz sg po nc), a_baseOf, a_cursor, ov_f sg, a_first, ov_f (ov_ln po nc), a_code, a_address, a_stubOf, a_stubCallee, img, cel, own, a_state, a_current, a_pc, a_stepCount, a_traceOf, a_height, a_values, a_stack)) :
    ∀ d j n img cel own, j + d = np → d < n → ov_RL img cel own pa sg po op aa bn nc (ov_fi po nc j) → wX_relocate_2 post f_maxSegments f_maxProcedures f_room f_maxDepth (nI sc) (nI np) (nI nc) f_linked f_resident n (nI j) a_parentOf a_pathMask (ov_f (ov_sz sg po nc)) a_baseOf a_cursor (ov_f sg) a_first (ov_f (ov_ln po nc)) a_code a_address a_stubOf a_stubCallee img cel own a_state a_current a_pc a_stepCount a_traceOf a_height a_values a_stack := by
  have h12 := ov_g12 G
  intro d
  induction d with
  | zero =>
    intro j n img cel own hj hn hm
    obtain ⟨n, rfl⟩ : ∃ n', n = n' + 1 := ⟨n - 1, by omega⟩
    refine br_t (nI_le (by omega) (by omega)) (K img cel own ?_)
    rw [show j = np from by omega, ov_fi_np G.2.2.2.1] at hm
    exact hm
  | succ d ih =>
    intro j n img cel own hj hn hm
    obtain ⟨n, rfl⟩ : ∃ n', n = n' + 1 := ⟨n - 1, by omega⟩
    exact br_f (nI_ge (by omega) (by omega)) (Exists.intro (ov_ln po nc j + 1) (ov_xrl12 G HF HM HA HO HC C (by omega) (fun img' cel' own' hm' => ih (j + 1) n img' cel' own' (by omega) (by omega) hm') (ov_ln po nc j) 0 (ov_ln po nc j + 1) img cel own (by omega) (by omega) hm))
theorem ov_xrl (G : ov_PG sc np nc pa sg po op aa bn) (HF : ov_FI a_first po nc np) (HM : ov_PM a_pathMask pa sc) (HA : ov_AD a_address pa sg po nc np) (HO : ov_SO a_stubOf pa sg po op bn nc np) (HC : ov_CD a_code op aa bn nc) (C : ∀ k, k < nc → ¬ ov_BC op bn np k) {post : SX → Prop}
    (K : ∀ img cel own, ov_RL img cel own pa sg po op aa bn nc nc → post (f_maxSegments, f_maxProcedures, f_room, f_maxDepth, nI sc, nI np, nI nc, f_linked, f_resident, a_parentOf, a_pathMask, ov_f (ov_sz sg po nc), a_baseOf, a_cursor, ov_f sg, a_first, ov_f (ov_ln po nc), a_code, a_address, a_stubOf, a_stubCallee, img, cel, own, a_state, a_current, a_pc, a_stepCount, a_traceOf, a_height, a_values, a_stack)) : wpX_relocate post (f_maxSegments, f_maxProcedures, f_room, f_maxDepth, nI sc, nI np, nI nc, f_linked, f_resident, a_parentOf, a_pathMask, ov_f (ov_sz sg po nc), a_baseOf, a_cursor, ov_f sg, a_first, ov_f (ov_ln po nc), a_code, a_address, a_stubOf, a_stubCallee, a_image, a_cell, a_owner, a_state, a_current, a_pc, a_stepCount, a_traceOf, a_height, a_values, a_stack) :=
  Exists.intro (np + 1) (ov_xrl2 G HF HM HA HO HC C K np 0 (np + 1) a_image a_cell a_owner (by omega) (by omega) (fun k hk => by rw [ov_fi_0] at hk; omega))
end
end
section
/-! the component: loading, entering, starting -/
def ov_LD (cel own : Nat → Int32) (pa sg po op aa bn : Nat → Nat) (nc p : Nat) : Prop := ∀ i, i < ov_ln po nc p → cel (ov_A pa sg po nc 0 p + i) = nI (ov_W pa sg po op aa bn nc 0 (ov_fi po nc p + i)) ∧ own (ov_A pa sg po nc 0 p + i) = nI p
def ov_FL (cel own : Nat → Int32) (pa sg po op aa bn : Nat → Nat) (nc : Nat) : Prop := ∀ k, k < nc → cel (64 + k) = nI (ov_W pa sg po op aa bn nc 1 k) ∧ own (64 + k) = nI (po k)
def ov_RS (rs : Int32) (cel own : Nat → Int32) (sc np nc : Nat) (pa sg po op aa bn : Nat → Nat) : Prop :=
  (∀ s, s < sc → bt rs s = true → ∀ t, ov_on pa s t = true → bt rs t = true) ∧ (∀ p, p < np → bt rs (sg p) = true → ov_LD cel own pa sg po op aa bn nc p)
def ov_IM (img : Nat → Int32) (pa sg po op aa bn : Nat → Nat) (nc : Nat) : Prop := ∀ k, k < nc → img k = nI (ov_W pa sg po op aa bn nc 0 k)
def ov_zr (v : Nat → Int32) (a b : Nat) : Nat → Int32 := fun j => if a ≤ j ∧ j < b then 0 else v j
theorem ov_zr_0 (v : Nat → Int32) (a : Nat) : ov_zr v a a = v := by
  funext j
  exact if_neg (by omega)
theorem ov_zr_s (v : Nat → Int32) {a b : Nat} (h : a ≤ b) : upd (ov_zr v a b) b 0 = ov_zr v a (b + 1) := by
  funext j
  by_cases e : j = b
  · subst e
    rw [pk_us]
    exact (if_pos (by omega)).symm
  · rw [pk_un e]
    unfold ov_zr
    by_cases e2 : a ≤ j ∧ j < b
    · rw [if_pos e2, if_pos (by omega)]
    · rw [if_neg e2, if_neg (by omega)]
theorem ov_zr_2 (v : Nat → Int32) : ov_zr (ov_zr v 0 12) 12 24 = ov_zr v 0 24 := by
  funext j
  unfold ov_zr
  by_cases e : 12 ≤ j ∧ j < 24
  · rw [if_pos e, if_pos (by omega)]
  · rw [if_neg e]
    by_cases e2 : 0 ≤ j ∧ j < 12
    · rw [if_pos e2, if_pos (by omega)]
    · rw [if_neg e2, if_neg (by omega)]
section
variable {f_maxSegments f_maxProcedures f_room f_maxDepth f_segmentCount f_procedureCount f_codeCount f_linked f_resident : Int32} {a_parentOf a_pathMask a_sizeOf a_baseOf a_cursor a_segmentOf a_first a_lengthOf a_code a_address a_stubOf a_stubCallee a_image a_cell a_owner a_state a_current a_pc a_stepCount a_traceOf a_height a_values a_stack : Nat → Int32} {sc np nc : Nat} {pa sg po op aa bn : Nat → Nat} {RM : Nat}
theorem ov_xld11 (G : ov_PG sc np nc pa sg po op aa bn) (HF : ov_FI a_first po nc np) (HI : ov_IM a_image pa sg po op aa bn nc) {p : Nat} (hp : p < np) (hr : ov_A pa sg po nc 0 p + ov_ln po nc p ≤ 64) {post : SX → Prop}
    (K : ∀ cel own, (∀ a, (a < ov_A pa sg po nc 0 p ∨ ov_A pa sg po nc 0 p + ov_ln po nc p ≤ a) → cel a = a_cell a ∧ own a = a_owner a) → ov_LD cel own pa sg po op aa bn nc p → post (f_maxSegments, f_maxProcedures, f_room, f_maxDepth, nI sc, nI np, nI nc, f_linked, f_resident, a_parentOf, a_pathMask, ov_f (ov_sz sg po nc), a_baseOf, a_cursor, ov_f sg, a_first, ov_f (ov_ln po nc), a_code, a_address, a_stubOf, a_stubCallee, a_image, cel, own, a_state, a_current, a_pc, a_stepCount, a_traceOf, a_height, a_values, a_stack)) :
    ∀ d i n cel own, i + d = ov_ln po nc p → d < n → (∀ a, (a < ov_A pa sg po nc 0 p ∨ ov_A pa sg po nc 0 p + ov_ln po nc p ≤ a) → cel a = a_cell a ∧ own a = a_owner a) → (∀ j, j < i → cel (ov_A pa sg po nc 0 p + j) = nI (ov_W pa sg po op aa bn nc 0 (ov_fi po nc p + j)) ∧ own (ov_A pa sg po nc 0 p + j) = nI p) →
      wX_load_11 post (nI p) (nI (ov_A pa sg po nc 0 p)) f_maxSegments f_maxProcedures f_room f_maxDepth (nI sc) (nI np) (nI nc) f_linked f_resident n (nI i) a_parentOf a_pathMask (ov_f (ov_sz sg po nc)) a_baseOf a_cursor (ov_f sg) a_first (ov_f (ov_ln po nc)) a_code a_address a_stubOf a_stubCallee a_image cel own a_state a_current a_pc a_stepCount a_traceOf a_height a_values a_stack := by
  have h128 := ov_g128 G
  have h12 := ov_g12 G
  have hfl := ov_fl_le (po := po) (nc := nc) p
  have el : ov_f (ov_ln po nc) (nI p).toNatClampNeg = nI (ov_ln po nc p) := ov_at (by omega)
  have v12 : vp_in (nI p) 12 := vp_in_nI (by omega) (by omega)
  intro d
  induction d with
  | zero =>
    intro i n cel own hi hn h1 h2
    obtain ⟨n, rfl⟩ : ∃ n', n = n' + 1 := ⟨n - 1, by omega⟩
    exact And.intro v12 (br_t (by rw [el]; exact nI_le (by omega) (by omega)) (K cel own h1 (fun j hj => h2 j (by omega))))
  | succ d ih =>
    intro i n cel own hi hn h1 h2
    obtain ⟨n, rfl⟩ : ∃ n', n = n' + 1 := ⟨n - 1, by omega⟩
    have hil : i < ov_ln po nc p := by omega
    obtain ⟨hK, hP⟩ := ov_po_at (ov_gM G) hil
    have ei := ov_fia G HF hp i
    have ea : nI (ov_A pa sg po nc 0 p) + nI i = nI (ov_A pa sg po nc 0 p + i) := nI_add _ _
    have va : vp_in (nI (ov_A pa sg po nc 0 p) + nI i) 192 := by rw [ea]; exact vp_in_nI (by omega) (by omega)
    have ec : (nI (ov_A pa sg po nc 0 p + i)).toNatClampNeg = ov_A pa sg po nc 0 p + i := nI_clamp (by omega)
    have hs := ih (i + 1) n (upd cel (ov_A pa sg po nc 0 p + i) (nI (ov_W pa sg po op aa bn nc 0 (ov_fi po nc p + i)))) (upd own (ov_A pa sg po nc 0 p + i) (nI p)) (by omega) (by omega) (fun a ha => by
      rw [pk_un (by omega), pk_un (by omega)]
      exact h1 a ha) (fun j hj => by
      by_cases e : j = i
      · rw [e, pk_us, pk_us]; exact ⟨rfl, rfl⟩
      · rw [pk_un (by omega), pk_un (by omega)]; exact h2 j (by omega))
    refine And.intro v12 (br_f (by rw [el]; exact nI_ge (by omega) (by omega)) ⟨v12, by rw [ei]; exact vp_in_nI (by omega) (by omega), va, nm_r (e' := upd cel (ov_A pa sg po nc 0 p + i) (nI (ov_W pa sg po op aa bn nc 0 (ov_fi po nc p + i)))) ?_ ⟨va, nm_r (e' := upd own (ov_A pa sg po nc 0 p + i) (nI p)) ?_ (nm_r (nI_1 i) hs)⟩⟩)
    · rw [ea, ec, ei, nI_clamp (by omega), HI _ hK]
    · rw [ea, ec]
theorem ov_xld (G : ov_PG sc np nc pa sg po op aa bn) (HF : ov_FI a_first po nc np) (HA : ov_AD a_address pa sg po nc np) (HI : ov_IM a_image pa sg po op aa bn nc) {p : Nat} (hp : p < np) (hr : ov_A pa sg po nc 0 p + ov_ln po nc p ≤ 64) {post : SX → Prop}
    (K : ∀ cel own, (∀ a, (a < ov_A pa sg po nc 0 p ∨ ov_A pa sg po nc 0 p + ov_ln po nc p ≤ a) → cel a = a_cell a ∧ own a = a_owner a) → ov_LD cel own pa sg po op aa bn nc p → post (f_maxSegments, f_maxProcedures, f_room, f_maxDepth, nI sc, nI np, nI nc, f_linked, f_resident, a_parentOf, a_pathMask, ov_f (ov_sz sg po nc), a_baseOf, a_cursor, ov_f sg, a_first, ov_f (ov_ln po nc), a_code, a_address, a_stubOf, a_stubCallee, a_image, cel, own, a_state, a_current, a_pc, a_stepCount, a_traceOf, a_height, a_values, a_stack)) : wpX_load post (f_maxSegments, f_maxProcedures, f_room, f_maxDepth, nI sc, nI np, nI nc, f_linked, f_resident, a_parentOf, a_pathMask, ov_f (ov_sz sg po nc), a_baseOf, a_cursor, ov_f sg, a_first, ov_f (ov_ln po nc), a_code, a_address, a_stubOf, a_stubCallee, a_image, a_cell, a_owner, a_state, a_current, a_pc, a_stepCount, a_traceOf, a_height, a_values, a_stack) (nI p) := by
  have h12 := ov_g12 G
  have e0 : 0 + nI p = nI p := Int32.zero_add _
  have hA := HA 0 (by omega) p hp
  rw [show 0 * 12 + p = p from by omega] at hA
  refine And.intro (by rw [e0]; exact vp_in_nI (by omega) (by omega)) (nm_r (e' := nI (ov_A pa sg po nc 0 p)) (by rw [e0, nI_clamp (by omega), hA]) (Exists.intro (ov_ln po nc p + 1) ?_))
  exact ov_xld11 G HF HI hp hr K (ov_ln po nc p) 0 (ov_ln po nc p + 1) a_cell a_owner (by omega) (by omega) (fun a _ => ⟨rfl, rfl⟩) (fun j hj => absurd hj (Nat.not_lt_zero j))
theorem ov_xbi28 (G : ov_PG sc np nc pa sg po op aa bn) (F : ov_WF sc np nc RM pa sg po op bn) (hR : RM ≤ 64) (HF : ov_FI a_first po nc np) (HM : ov_PM a_pathMask pa sc) (HA : ov_AD a_address pa sg po nc np) (HI : ov_IM a_image pa sg po op aa bn nc) {s : Nat} (hs : s < sc) {mask : Int32} {R : Nat → Bool}
    (hm : ∀ t, t < 31 → bt mask t = (ov_on pa s t && !(R t))) {post : SX → Prop}
    (K : ∀ cel own, ov_RS (a_pathMask s) cel own sc np nc pa sg po op aa bn → ov_FL cel own pa sg po op aa bn nc → post (f_maxSegments, f_maxProcedures, f_room, f_maxDepth, nI sc, nI np, nI nc, f_linked, a_pathMask s, a_parentOf, a_pathMask, ov_f (ov_sz sg po nc), a_baseOf, a_cursor, ov_f sg, a_first, ov_f (ov_ln po nc), a_code, a_address, a_stubOf, a_stubCallee, a_image, cel, own, a_state, a_current, a_pc, a_stepCount, a_traceOf, a_height, a_values, a_stack)) :
    ∀ d j n cel own, j + d = np → d < n → (∀ p, p < np → ov_on pa s (sg p) = true → (R (sg p) = true ∨ p < j) → ov_LD cel own pa sg po op aa bn nc p) → ov_FL cel own pa sg po op aa bn nc →
      wX_bringIn_28 post (nI s) mask n (nI j) f_maxSegments f_maxProcedures f_room f_maxDepth (nI sc) (nI np) (nI nc) f_linked f_resident a_parentOf a_pathMask (ov_f (ov_sz sg po nc)) a_baseOf a_cursor (ov_f sg) a_first (ov_f (ov_ln po nc)) a_code a_address a_stubOf a_stubCallee a_image cel own a_state a_current a_pc a_stepCount a_traceOf a_height a_values a_stack := by
  have h128 := ov_g128 G
  have h12 := ov_g12 G
  have h8 := ov_g8 G
  intro d
  induction d with
  | zero =>
    intro j n cel own hj hn h1 h2
    obtain ⟨n, rfl⟩ : ∃ n', n = n' + 1 := ⟨n - 1, by omega⟩
    refine br_t (nI_le (by omega) (by omega)) ⟨vp_in_nI (by omega) (by omega), nm_r (e' := a_pathMask s) (by rw [nI_clamp (by omega)]) (K cel own ⟨?_, ?_⟩ h2)⟩
    · intro t ht h3 r h4
      rw [HM s hs t (by omega)] at h3
      have h5 := ov_on_sc (ov_gD G) h8 ht h4
      rw [HM s hs r (by omega)]
      exact ov_on_trans (ov_gD G) h8 hs h3 h4
    · intro p hp h3
      have := ov_gs G hp
      rw [HM s hs (sg p) (by omega)] at h3
      exact h1 p hp h3 (Or.inr (by omega))
  | succ d ih =>
    intro j n cel own hj hn h1 h2
    obtain ⟨n, rfl⟩ : ∃ n', n = n' + 1 := ⟨n - 1, by omega⟩
    have hj' : j < np := by omega
    have hsg := ov_gs G hj'
    have hbit := hm (sg j) (by omega)
    refine br_f (nI_ge (by omega) (by omega)) ⟨vp_in_nI (by omega) (by omega), ek_if (d := bt mask (sg j) = false) (by rw [ov_at (by omega), ov_bit _ (by omega)]) (fun e => nm_r (nI_1 j) (ih (j + 1) n cel own (by omega) (by omega) (fun p hp h3 h4 => ?_) h2)) (fun e => ?_)⟩
    · by_cases e2 : p = j
      · subst e2
        rw [e, h3, Bool.true_and] at hbit
        refine h1 p hp h3 (Or.inl ?_)
        cases hh : R (sg p) with
        | true => rfl
        | false => rw [hh] at hbit; exact absurd hbit (by decide)
      · refine h1 p hp h3 ?_
        rcases h4 with h4 | h4
        · exact Or.inl h4
        · exact Or.inr (by omega)
    · have e1 : bt mask (sg j) = true := eq_true_of_ne_false e
      rw [e1] at hbit
      have hon : ov_on pa s (sg j) = true := by
        cases hh : ov_on pa s (sg j) with
        | true => rfl
        | false => rw [hh, Bool.false_and] at hbit; exact absurd hbit (by decide)
      have hA0 := ov_A0r G F hj'
      refine ov_xld G HF HA HI hj' (by omega) (fun cel' own' h3 h4 => ?_)
      refine nm_r (nI_1 j) (ih (j + 1) n cel' own' (by omega) (by omega) (fun p hp h5 h6 => ?_) (fun k hk => ?_))
      · by_cases e2 : p = j
        · rw [e2]; exact h4
        · have hp1 : ov_LD cel own pa sg po op aa bn nc p := by
            refine h1 p hp h5 ?_
            rcases h6 with h6 | h6
            · exact Or.inl h6
            · exact Or.inr (by omega)
          have hd := ov_dis G hs hp hj' h5 hon e2
          intro i hi
          obtain ⟨q1, q2⟩ := h3 (ov_A pa sg po nc 0 p + i) (by omega)
          rw [q1, q2]
          exact hp1 i hi
      · obtain ⟨q1, q2⟩ := h3 (64 + k) (by omega)
        rw [q1, q2]
        exact h2 k hk
theorem ov_xbi (G : ov_PG sc np nc pa sg po op aa bn) (F : ov_WF sc np nc RM pa sg po op bn) (hR : RM ≤ 64) (HF : ov_FI a_first po nc np) (HM : ov_PM a_pathMask pa sc) (HA : ov_AD a_address pa sg po nc np) (HI : ov_IM a_image pa sg po op aa bn nc) {s : Nat} (hs : s < sc) {x : Int32} (hx : x = nI s)
    (H1 : ov_RS f_resident a_cell a_owner sc np nc pa sg po op aa bn) (H2 : ov_FL a_cell a_owner pa sg po op aa bn nc) {post : SX → Prop}
    (K : ∀ rs cel own, ov_RS rs cel own sc np nc pa sg po op aa bn → ov_FL cel own pa sg po op aa bn nc → bt rs s = true → post (f_maxSegments, f_maxProcedures, f_room, f_maxDepth, nI sc, nI np, nI nc, f_linked, rs, a_parentOf, a_pathMask, ov_f (ov_sz sg po nc), a_baseOf, a_cursor, ov_f sg, a_first, ov_f (ov_ln po nc), a_code, a_address, a_stubOf, a_stubCallee, a_image, cel, own, a_state, a_current, a_pc, a_stepCount, a_traceOf, a_height, a_values, a_stack)) : wpX_bringIn post (f_maxSegments, f_maxProcedures, f_room, f_maxDepth, nI sc, nI np, nI nc, f_linked, f_resident, a_parentOf, a_pathMask, ov_f (ov_sz sg po nc), a_baseOf, a_cursor, ov_f sg, a_first, ov_f (ov_ln po nc), a_code, a_address, a_stubOf, a_stubCallee, a_image, a_cell, a_owner, a_state, a_current, a_pc, a_stepCount, a_traceOf, a_height, a_values, a_stack) x := by
  subst hx
  have h8 := ov_g8 G
  refine ek_if (d := bt f_resident s = false) (ov_bit _ (by omega)) (fun e => ⟨vp_in_nI (by omega) (by omega), nm_r (e' := a_pathMask s &&& (f_resident ^^^ (-1))) (by rw [nI_clamp (by omega)]) (Exists.intro (np + 1) ?_)⟩) (fun e => K f_resident a_cell a_owner H1 H2 (eq_true_of_ne_false e))
  refine ov_xbi28 G F hR HF HM HA HI hs (R := bt f_resident) (fun t ht => ?_) (fun cel own h1 h2 => K _ cel own h1 h2 ?_) np 0 (np + 1) a_cell a_owner (by omega) (by omega) (fun p hp h3 h4 => ?_) H2
  · rw [b_and, b_xor, b_m1 t (by omega), HM s hs t ht, Bool.xor_true]
  · rw [HM s hs s (by omega)]
    exact ov_on_r (ov_gD G) h8 hs
  · rcases h4 with h4 | h4
    · exact H1.2 p hp h4
    · omega
theorem ov_xen14 (G : ov_PG sc np nc pa sg po op aa bn) (HA : ov_AD a_address pa sg po nc np) {m q o : Nat} (hm : m < 2) (hq : q < np) {post : SX → Prop} (h : post (f_maxSegments, f_maxProcedures, f_room, f_maxDepth, nI sc, nI np, nI nc, f_linked, f_resident, a_parentOf, a_pathMask, ov_f (ov_sz sg po nc), a_baseOf, a_cursor, ov_f sg, a_first, ov_f (ov_ln po nc), a_code, a_address, a_stubOf, a_stubCallee, a_image, a_cell, a_owner, a_state, upd a_current m (nI q), upd a_pc m (nI (ov_A pa sg po nc m q + o)), a_stepCount, a_traceOf, a_height, a_values, a_stack)) : wX_enter_14 post (nI m) (nI q) (nI o) f_maxSegments f_maxProcedures f_room f_maxDepth (nI sc) (nI np) (nI nc) f_linked f_resident a_parentOf a_pathMask (ov_f (ov_sz sg po nc)) a_baseOf a_cursor (ov_f sg) a_first (ov_f (ov_ln po nc)) a_code a_address a_stubOf a_stubCallee a_image a_cell a_owner a_state a_current a_pc a_stepCount a_traceOf a_height a_values a_stack := by
  obtain ⟨h1, h2⟩ := ov_ad12 G HA hm hq
  have v2 : vp_in (nI m) 2 := vp_in_nI (by omega) (by omega)
  have ec : (nI m).toNatClampNeg = m := nI_clamp (by omega)
  exact And.intro v2 (nm_r (e' := upd a_current m (nI q)) (by rw [ec]) ⟨h1, v2, nm_r (e' := upd a_pc m (nI (ov_A pa sg po nc m q + o))) (by rw [ec, h2, nI_add]) h⟩)
theorem ov_xen (G : ov_PG sc np nc pa sg po op aa bn) (F : ov_WF sc np nc RM pa sg po op bn) (hR : RM ≤ 64) (HF : ov_FI a_first po nc np) (HM : ov_PM a_pathMask pa sc) (HA : ov_AD a_address pa sg po nc np) (HI : ov_IM a_image pa sg po op aa bn nc) {m q o : Nat} (hm : m < 2) (hq : q < np) {x y z : Int32} (hx : x = nI m) (hy : y = nI q) (hz : z = nI o)
    (H1 : ov_RS f_resident a_cell a_owner sc np nc pa sg po op aa bn) (H2 : ov_FL a_cell a_owner pa sg po op aa bn nc) {post : SX → Prop}
    (K : ∀ rs cel own, ov_RS rs cel own sc np nc pa sg po op aa bn → ov_FL cel own pa sg po op aa bn nc → (m = 0 → bt rs (sg q) = true) → (m ≠ 0 → rs = f_resident) → post (f_maxSegments, f_maxProcedures, f_room, f_maxDepth, nI sc, nI np, nI nc, f_linked, rs, a_parentOf, a_pathMask, ov_f (ov_sz sg po nc), a_baseOf, a_cursor, ov_f sg, a_first, ov_f (ov_ln po nc), a_code, a_address, a_stubOf, a_stubCallee, a_image, cel, own, a_state, upd a_current m (nI q), upd a_pc m (nI (ov_A pa sg po nc m q + o)), a_stepCount, a_traceOf, a_height, a_values, a_stack)) : wpX_enter post (f_maxSegments, f_maxProcedures, f_room, f_maxDepth, nI sc, nI np, nI nc, f_linked, f_resident, a_parentOf, a_pathMask, ov_f (ov_sz sg po nc), a_baseOf, a_cursor, ov_f sg, a_first, ov_f (ov_ln po nc), a_code, a_address, a_stubOf, a_stubCallee, a_image, a_cell, a_owner, a_state, a_current, a_pc, a_stepCount, a_traceOf, a_height, a_values, a_stack) x y z := by
  subst hx hy hz
  have h12 := ov_g12 G
  rcases (by omega : m = 0 ∨ m = 1) with em | em
  · subst em
    refine br_t rfl ⟨vp_in_nI (by omega) (by omega), ov_xbi G F hR HF HM HA HI (ov_gs G hq) (ov_at (by omega)) H1 H2 (fun rs cel own h1 h2 h3 => ?_)⟩
    exact ov_xen14 G HA hm hq (K rs cel own h1 h2 (fun _ => h3) (fun z => absurd rfl z))
  · subst em
    exact br_f (by decide) (ov_xen14 G HA hm hq (K f_resident a_cell a_owner H1 H2 (fun z => by omega) (fun _ => rfl)))
theorem ov_xst2 (G : ov_PG sc np nc pa sg po op aa bn) (F : ov_WF sc np nc RM pa sg po op bn) (hR : RM ≤ 64) (HF : ov_FI a_first po nc np) (HM : ov_PM a_pathMask pa sc) (HA : ov_AD a_address pa sg po nc np) (HI : ov_IM a_image pa sg po op aa bn nc) {m : Nat} (hm : m < 2)
    (H1 : ov_RS f_resident a_cell a_owner sc np nc pa sg po op aa bn) (H2 : ov_FL a_cell a_owner pa sg po op aa bn nc) {post : SX → Prop}
    (K : ∀ rs cel own, ov_RS rs cel own sc np nc pa sg po op aa bn → ov_FL cel own pa sg po op aa bn nc → (m = 0 → bt rs (sg 0) = true) → (m ≠ 0 → rs = f_resident) → post (f_maxSegments, f_maxProcedures, f_room, f_maxDepth, nI sc, nI np, nI nc, f_linked, rs, a_parentOf, a_pathMask, ov_f (ov_sz sg po nc), a_baseOf, a_cursor, ov_f sg, a_first, ov_f (ov_ln po nc), a_code, a_address, a_stubOf, a_stubCallee, a_image, cel, own, upd a_state m 0, upd a_current m (nI 0), upd a_pc m (nI (ov_A pa sg po nc m 0 + 0)), upd a_stepCount m 0, upd a_traceOf m 0, upd a_height m 0, ov_zr a_values (m * 12) (m * 12 + 12), a_stack)) :
    ∀ d i n, i + d = 12 → d < n → wX_startMachine_2 post (nI m) f_maxSegments f_maxProcedures f_room f_maxDepth (nI sc) (nI np) (nI nc) f_linked f_resident n (nI i) a_parentOf a_pathMask (ov_f (ov_sz sg po nc)) a_baseOf a_cursor (ov_f sg) a_first (ov_f (ov_ln po nc)) a_code a_address a_stubOf a_stubCallee a_image a_cell a_owner a_state a_current a_pc a_stepCount a_traceOf a_height (ov_zr a_values (m * 12) (m * 12 + i)) a_stack := by
  have v2 : vp_in (nI m) 2 := vp_in_nI (by omega) (by omega)
  have ec : (nI m).toNatClampNeg = m := nI_clamp (by omega)
  intro d
  induction d with
  | zero =>
    intro i n hi hn
    obtain ⟨n, rfl⟩ : ∃ n', n = n' + 1 := ⟨n - 1, by omega⟩
    have e : i = 12 := by omega
    subst e
    refine br_t (nI_le (a := 12) (by omega) (by omega)) ⟨v2, nm_r (e' := upd a_state m 0) (by rw [ec]) ⟨v2, nm_r (e' := upd a_stepCount m 0) (by rw [ec]) ⟨v2, nm_r (e' := upd a_traceOf m 0) (by rw [ec]) ⟨v2, nm_r (e' := upd a_height m 0) (by rw [ec]) ?_⟩⟩⟩⟩
    exact ov_xen G F hR HF HM HA HI hm F.1 (o := 0) rfl rfl rfl H1 H2 (fun rs cel own h1 h2 h3 h4 => K rs cel own h1 h2 h3 h4)
  | succ d ih =>
    intro i n hi hn
    obtain ⟨n, rfl⟩ : ∃ n', n = n' + 1 := ⟨n - 1, by omega⟩
    have hs := ih (i + 1) n (by omega) (by omega)
    refine br_f (nI_ge (b := 12) (by omega) (by omega)) ⟨by rw [ov_m12]; exact vp_in_nI (by omega) (by omega), nm_r (e' := ov_zr a_values (m * 12) (m * 12 + (i + 1))) ?_ (nm_r (nI_1 i) hs)⟩
    rw [ov_m12, nI_clamp (by omega), ov_zr_s _ (by omega), Nat.add_assoc]
theorem ov_xst (G : ov_PG sc np nc pa sg po op aa bn) (F : ov_WF sc np nc RM pa sg po op bn) (hR : RM ≤ 64) (HF : ov_FI a_first po nc np) (HM : ov_PM a_pathMask pa sc) (HA : ov_AD a_address pa sg po nc np) (HI : ov_IM a_image pa sg po op aa bn nc) {m : Nat} (hm : m < 2) {x : Int32} (hx : x = nI m)
    (H1 : ov_RS f_resident a_cell a_owner sc np nc pa sg po op aa bn) (H2 : ov_FL a_cell a_owner pa sg po op aa bn nc) {post : SX → Prop}
    (K : ∀ rs cel own, ov_RS rs cel own sc np nc pa sg po op aa bn → ov_FL cel own pa sg po op aa bn nc → (m = 0 → bt rs (sg 0) = true) → (m ≠ 0 → rs = f_resident) → post (f_maxSegments, f_maxProcedures, f_room, f_maxDepth, nI sc, nI np, nI nc, f_linked, rs, a_parentOf, a_pathMask, ov_f (ov_sz sg po nc), a_baseOf, a_cursor, ov_f sg, a_first, ov_f (ov_ln po nc), a_code, a_address, a_stubOf, a_stubCallee, a_image, cel, own, upd a_state m 0, upd a_current m (nI 0), upd a_pc m (nI (ov_A pa sg po nc m 0 + 0)), upd a_stepCount m 0, upd a_traceOf m 0, upd a_height m 0, ov_zr a_values (m * 12) (m * 12 + 12), a_stack)) : wpX_startMachine post (f_maxSegments, f_maxProcedures, f_room, f_maxDepth, nI sc, nI np, nI nc, f_linked, f_resident, a_parentOf, a_pathMask, ov_f (ov_sz sg po nc), a_baseOf, a_cursor, ov_f sg, a_first, ov_f (ov_ln po nc), a_code, a_address, a_stubOf, a_stubCallee, a_image, a_cell, a_owner, a_state, a_current, a_pc, a_stepCount, a_traceOf, a_height, a_values, a_stack) x := by
  subst hx
  have h := ov_xst2 G F hR HF HM HA HI hm H1 H2 K 12 0 13 (by omega) (by omega)
  rw [Nat.add_zero, ov_zr_0] at h
  exact Exists.intro 13 h
end
end
section
/-! the relation -/
def ov_MC (m MD np nc : Nat) (pa sg po : Nat → Nat) (rs : Int32) (cu pcc pos hei stk : Nat → Int32) : Prop :=
  ∃ q o h, q < np ∧ o < ov_ln po nc q ∧ cu m = nI q ∧ pcc m = nI (ov_A pa sg po nc m q + o) ∧ pos m = nI (q * 128 + o) ∧ hei m = nI h ∧ h ≤ MD ∧ (∀ j, j < h → ∃ a b, a < np ∧ b < ov_ln po nc a ∧ stk (m * 16 + j) = nI (a * 128 + b)) ∧ (m = 0 → bt rs (sg q) = true)
/-- what a linked state holds apart from the machines -/
def ov_ST (RM sc np nc : Nat) (pa sg po op aa bn : Nat → Nat) (bas adr sto stc img : Nat → Int32) : Prop :=
  ov_WF sc np nc RM pa sg po op bn ∧ ov_BS bas pa sg po nc sc ∧ ov_AD adr pa sg po nc np ∧ ov_SO sto pa sg po op bn nc np ∧ ov_SC stc pa sg po op bn nc np ∧ ov_IM img pa sg po op aa bn nc
def ov_DY (MD sc np nc : Nat) (pa sg po op aa bn : Nat → Nat) (rs : Int32) (cel own cu pcc pos hei stk : Nat → Int32) : Prop :=
  ov_RS rs cel own sc np nc pa sg po op aa bn ∧ ov_FL cel own pa sg po op aa bn nc ∧ ∀ m, m < 2 → ov_MC m MD np nc pa sg po rs cu pcc pos hei stk
/-- what always holds -/
def ov_AL (MS MP RM MD sc np nc : Nat) (pa sg po op aa bn : Nat → Nat) (par pmk fir cod bb : Nat → Int32) : Prop :=
  (MS ≤ 8 ∧ MP ≤ 12 ∧ RM ≤ 64 ∧ MD ≤ 16) ∧ ov_PG sc np nc pa sg po op aa bn ∧ ov_PA par pa sc ∧ ov_PM pmk pa sc ∧ ov_FI fir po nc np ∧ ov_CD cod op aa bn nc ∧ ov_BB op bn nc bb
def ov_R (MS MP RM MD sc np nc : Nat) (fl rs : Int32) (pa sg po op aa bn : Nat → Nat) (par pmk bas cur fir cod adr sto stc img cel own sta cu pcc stp trc hei val stk bb pos : Nat → Int32) : Prop :=
  ov_AL MS MP RM MD sc np nc pa sg po op aa bn par pmk fir cod bb ∧
  (¬ fl = 0 → ov_ST RM sc np nc pa sg po op aa bn bas adr sto stc img ∧ ov_DY MD sc np nc pa sg po op aa bn rs cel own cu pcc pos hei stk)
def i_Rel (_ : Nat) (u : SX) (v : SY) : Prop := ∃ (MS MP RM MD sc np nc : Nat) (fl rs : Int32) (pa sg po op aa bn : Nat → Nat) (par pmk bas cur fir cod adr sto stc img cel own sta cu pcc stp trc hei val stk bb pos : Nat → Int32), u = (nI MS, nI MP, nI RM, nI MD, nI sc, nI np, nI nc, fl, rs, par, pmk, ov_f (ov_sz sg po nc), bas, cur, ov_f sg, fir, ov_f (ov_ln po nc), cod, adr, sto, stc, img, cel, own, sta, cu, pcc, stp, trc, hei, val, stk) ∧ v = (nI MS, nI MP, nI RM, nI MD, nI sc, nI np, nI nc, fl, ov_f pa, ov_f sg, ov_f po, ov_f op, ov_f aa, bb, val, sta, pos, stp, trc, hei, stk) ∧ ov_R MS MP RM MD sc np nc fl rs pa sg po op aa bn par pmk bas cur fir cod adr sto stc img cel own sta cu pcc stp trc hei val stk bb pos
theorem ov_el {P : SX → SY → Prop} {k : Nat} {u : SX} {v : SY} (I : i_Rel k u v) (h : ∀ (MS MP RM MD sc np nc : Nat) (fl rs : Int32) (pa sg po op aa bn : Nat → Nat) (par pmk bas cur fir cod adr sto stc img cel own sta cu pcc stp trc hei val stk bb pos : Nat → Int32), ov_R MS MP RM MD sc np nc fl rs pa sg po op aa bn par pmk bas cur fir cod adr sto stc img cel own sta cu pcc stp trc hei val stk bb pos → P (nI MS, nI MP, nI RM, nI MD, nI sc, nI np, nI nc, fl, rs, par, pmk, ov_f (ov_sz sg po nc), bas, cur, ov_f sg, fir, ov_f (ov_ln po nc), cod, adr, sto, stc, img, cel, own, sta, cu, pcc, stp, trc, hei, val, stk) (nI MS, nI MP, nI RM, nI MD, nI sc, nI np, nI nc, fl, ov_f pa, ov_f sg, ov_f po, ov_f op, ov_f aa, bb, val, sta, pos, stp, trc, hei, stk)) : P u v :=
  Exists.elim I fun MS I => Exists.elim I fun MP I => Exists.elim I fun RM I => Exists.elim I fun MD I => Exists.elim I fun sc I => Exists.elim I fun np I => Exists.elim I fun nc I => Exists.elim I fun fl I => Exists.elim I fun rs I => Exists.elim I fun pa I => Exists.elim I fun sg I => Exists.elim I fun po I => Exists.elim I fun op I => Exists.elim I fun aa I => Exists.elim I fun bn I => Exists.elim I fun par I => Exists.elim I fun pmk I => Exists.elim I fun bas I => Exists.elim I fun cur I => Exists.elim I fun fir I => Exists.elim I fun cod I => Exists.elim I fun adr I => Exists.elim I fun sto I => Exists.elim I fun stc I => Exists.elim I fun img I => Exists.elim I fun cel I => Exists.elim I fun own I => Exists.elim I fun sta I => Exists.elim I fun cu I => Exists.elim I fun pcc I => Exists.elim I fun stp I => Exists.elim I fun trc I => Exists.elim I fun hei I => Exists.elim I fun val I => Exists.elim I fun stk I => Exists.elim I fun bb I => Exists.elim I fun pos I =>  (by rw [I.1, I.2.1]; exact h MS MP RM MD sc np nc fl rs pa sg po op aa bn par pmk bas cur fir cod adr sto stc img cel own sta cu pcc stp trc hei val stk bb pos I.2.2)
section
variable {MS MP RM MD sc np nc : Nat} {fl rs : Int32} {pa sg po op aa bn : Nat → Nat} {par pmk bas cur fir cod adr sto stc img cel own sta cu pcc stp trc hei val stk bb pos : Nat → Int32}
theorem ov_in {k : Nat} (h : ov_R MS MP RM MD sc np nc fl rs pa sg po op aa bn par pmk bas cur fir cod adr sto stc img cel own sta cu pcc stp trc hei val stk bb pos) : i_Rel k (nI MS, nI MP, nI RM, nI MD, nI sc, nI np, nI nc, fl, rs, par, pmk, ov_f (ov_sz sg po nc), bas, cur, ov_f sg, fir, ov_f (ov_ln po nc), cod, adr, sto, stc, img, cel, own, sta, cu, pcc, stp, trc, hei, val, stk) (nI MS, nI MP, nI RM, nI MD, nI sc, nI np, nI nc, fl, ov_f pa, ov_f sg, ov_f po, ov_f op, ov_f aa, bb, val, sta, pos, stp, trc, hei, stk) := ⟨MS, MP, RM, MD, sc, np, nc, fl, rs, pa, sg, po, op, aa, bn, par, pmk, bas, cur, fir, cod, adr, sto, stc, img, cel, own, sta, cu, pcc, stp, trc, hei, val, stk, bb, pos, rfl, rfl, h⟩
theorem ov_in0 {k : Nat} (h : ov_AL MS MP RM MD sc np nc pa sg po op aa bn par pmk fir cod bb) : i_Rel k (nI MS, nI MP, nI RM, nI MD, nI sc, nI np, nI nc, 0, rs, par, pmk, ov_f (ov_sz sg po nc), bas, cur, ov_f sg, fir, ov_f (ov_ln po nc), cod, adr, sto, stc, img, cel, own, sta, cu, pcc, stp, trc, hei, val, stk) (nI MS, nI MP, nI RM, nI MD, nI sc, nI np, nI nc, 0, ov_f pa, ov_f sg, ov_f po, ov_f op, ov_f aa, bb, val, sta, pos, stp, trc, hei, stk) :=
  ov_in ⟨h, fun z => absurd rfl z⟩
end
end
section
/-! the methods that only read, apart from memory -/
theorem ov_rg (x : Int32) {n : Nat} (hn : n + 1 < 2 ^ 31) : x < 0 ∨ (¬ x < 0 ∧ nI n < x ∧ ¬ x ≤ nI n) ∨ ∃ j : Nat, j ≤ n ∧ x = nI j := by
  by_cases h : x < 0
  · exact Or.inl h
  · obtain ⟨j, hj, rfl⟩ := nI_of h
    by_cases h2 : j ≤ n
    · exact Or.inr (Or.inr ⟨j, h2, rfl⟩)
    · exact Or.inr (Or.inl ⟨h, nI_lt (by omega) hj, nI_ge (by omega) hj⟩)
theorem ov_ml (fl x : Int32) : (fl = 0 ∨ ∀ m, m < 2 → x ≠ nI m) ∨ (¬ fl = 0 ∧ ∃ m, m < 2 ∧ x = nI m) := by
  by_cases h : fl = 0
  · exact Or.inl (Or.inl h)
  · by_cases h2 : ∃ m, m < 2 ∧ x = nI m
    · exact Or.inr ⟨h, h2⟩
    · exact Or.inl (Or.inr (fun m hm z => h2 ⟨m, hm, z⟩))
section
variable {f_maxSegments f_maxProcedures f_room f_maxDepth f_segmentCount f_procedureCount f_codeCount f_linked f_resident : Int32} {a_parentOf a_pathMask a_sizeOf a_baseOf a_cursor a_segmentOf a_first a_lengthOf a_code a_address a_stubOf a_stubCallee a_image a_cell a_owner a_state a_current a_pc a_stepCount a_traceOf a_height a_values a_stack : Nat → Int32} {post : Int32 → Prop} {x : Int32} {m : Nat}
theorem ov_xdead (h : f_linked = 0 ∨ ∀ m, m < 2 → x ≠ nI m) (hp : post 0) : wpX_isLive post (f_maxSegments, f_maxProcedures, f_room, f_maxDepth, f_segmentCount, f_procedureCount, f_codeCount, f_linked, f_resident, a_parentOf, a_pathMask, a_sizeOf, a_baseOf, a_cursor, a_segmentOf, a_first, a_lengthOf, a_code, a_address, a_stubOf, a_stubCallee, a_image, a_cell, a_owner, a_state, a_current, a_pc, a_stepCount, a_traceOf, a_height, a_values, a_stack) x := by
  by_cases e : f_linked = 0
  · exact br_t e hp
  · rcases h with h | h
    · exact absurd h e
    · exact br_f e (br_f (fun z => h 0 (by omega) z) (br_f (fun z => h 1 (by omega) z) hp))
theorem ov_xlive (h : ¬ f_linked = 0) (hm : m < 2) (hp : post 1) : wpX_isLive post (f_maxSegments, f_maxProcedures, f_room, f_maxDepth, f_segmentCount, f_procedureCount, f_codeCount, f_linked, f_resident, a_parentOf, a_pathMask, a_sizeOf, a_baseOf, a_cursor, a_segmentOf, a_first, a_lengthOf, a_code, a_address, a_stubOf, a_stubCallee, a_image, a_cell, a_owner, a_state, a_current, a_pc, a_stepCount, a_traceOf, a_height, a_values, a_stack) (nI m) := by
  rcases (by omega : m = 0 ∨ m = 1) with e | e
  · subst e; exact br_f h (br_t rfl hp)
  · subst e; exact br_f h (br_f (by decide) (br_t rfl hp))
end
section
variable {f_maxSegments f_maxProcedures f_maxMemory f_maxDepth f_segs f_procs f_count f_linked : Int32} {a_parent a_segOf a_procOf a_ops a_as a_bs a_cells a_stat a_pos a_stepCount a_traces a_held a_stack : Nat → Int32} {post : Int32 → Prop} {x : Int32} {m : Nat}
theorem ov_ydead (h : f_linked = 0 ∨ ∀ m, m < 2 → x ≠ nI m) (hp : post 1) : wpY_noMachine post (f_maxSegments, f_maxProcedures, f_maxMemory, f_maxDepth, f_segs, f_procs, f_count, f_linked, a_parent, a_segOf, a_procOf, a_ops, a_as, a_bs, a_cells, a_stat, a_pos, a_stepCount, a_traces, a_held, a_stack) x := by
  by_cases e : f_linked = 0
  · exact br_t e hp
  · rcases h with h | h
    · exact absurd h e
    · refine br_f e ?_
      rcases ov_rg x (n := 1) (by omega) with h1 | ⟨h1, h2, h3⟩ | ⟨j, h1, h2⟩
      · exact br_t h1 hp
      · exact br_f h1 (br_f h3 hp)
      · exact absurd h2 (h j (by omega))
theorem ov_ylive (h : ¬ f_linked = 0) (hm : m < 2) (hp : post 0) : wpY_noMachine post (f_maxSegments, f_maxProcedures, f_maxMemory, f_maxDepth, f_segs, f_procs, f_count, f_linked, a_parent, a_segOf, a_procOf, a_ops, a_as, a_bs, a_cells, a_stat, a_pos, a_stepCount, a_traces, a_held, a_stack) (nI m) :=
  br_f h (br_f (nI_pos (by omega)) (br_t (nI_le (b := 1) (by omega) (by omega)) hp))
end
section
variable {f_maxSegments f_maxProcedures f_room f_maxDepth f_segmentCount f_procedureCount f_codeCount f_linked f_resident : Int32} {a_parentOf a_pathMask a_sizeOf a_baseOf a_cursor a_segmentOf a_first a_lengthOf a_code a_address a_stubOf a_stubCallee a_image a_cell a_owner a_state a_current a_pc a_stepCount a_traceOf a_height a_values a_stack : Nat → Int32} {sc np nc : Nat} {pa sg po op aa bn : Nat → Nat} {post : Int32 → Prop}
theorem ov_xhere (G : ov_PG sc np nc pa sg po op aa bn) (HA : ov_AD a_address pa sg po nc np) {m q o : Nat} (hm : m < 2) (hq : q < np) (h1 : a_current m = nI q) (h2 : a_pc m = nI (ov_A pa sg po nc m q + o)) (hp : post (nI (q * 128 + o))) : wpX_here post (f_maxSegments, f_maxProcedures, f_room, f_maxDepth, nI sc, nI np, nI nc, f_linked, f_resident, a_parentOf, a_pathMask, ov_f (ov_sz sg po nc), a_baseOf, a_cursor, ov_f sg, a_first, ov_f (ov_ln po nc), a_code, a_address, a_stubOf, a_stubCallee, a_image, a_cell, a_owner, a_state, a_current, a_pc, a_stepCount, a_traceOf, a_height, a_values, a_stack) (nI m) := by
  obtain ⟨h3, h4⟩ := ov_ad12 G HA hm hq
  have v2 : vp_in (nI m) 2 := vp_in_nI (by omega) (by omega)
  have ec : (nI m).toNatClampNeg = m := nI_clamp (by omega)
  refine And.intro v2 (nm_r (e' := nI q) (by rw [ec, h1]) ⟨v2, h3, ?_⟩)
  have e : nI q * 128 + a_pc (nI m).toNatClampNeg - a_address (nI m * 12 + nI q).toNatClampNeg = nI (q * 128 + o) := by
    rw [h4, ec, h2, show (128 : Int32) = nI 128 from rfl, pk_mul, nI_add, pk_sub (by omega)]
    exact congrArg nI (by omega)
  rw [e]
  exact hp
end
section
variable {MS MP RM MD sc np nc : Nat} {fl rs : Int32} {pa sg po op aa bn : Nat → Nat} {par pmk bas cur fir cod adr sto stc img cel own sta cu pcc stp trc hei val stk bb pos : Nat → Int32} {k : Nat}
theorem ov_status (H : ov_R MS MP RM MD sc np nc fl rs pa sg po op aa bn par pmk bas cur fir cod adr sto stc img cel own sta cu pcc stp trc hei val stk bb pos) (v1 : Int32) : wpX_status (fun r => wpY_status (fun r' => r' = r ∧ i_Rel k (nI MS, nI MP, nI RM, nI MD, nI sc, nI np, nI nc, fl, rs, par, pmk, ov_f (ov_sz sg po nc), bas, cur, ov_f sg, fir, ov_f (ov_ln po nc), cod, adr, sto, stc, img, cel, own, sta, cu, pcc, stp, trc, hei, val, stk) (nI MS, nI MP, nI RM, nI MD, nI sc, nI np, nI nc, fl, ov_f pa, ov_f sg, ov_f po, ov_f op, ov_f aa, bb, val, sta, pos, stp, trc, hei, stk)) (nI MS, nI MP, nI RM, nI MD, nI sc, nI np, nI nc, fl, ov_f pa, ov_f sg, ov_f po, ov_f op, ov_f aa, bb, val, sta, pos, stp, trc, hei, stk) v1) (nI MS, nI MP, nI RM, nI MD, nI sc, nI np, nI nc, fl, rs, par, pmk, ov_f (ov_sz sg po nc), bas, cur, ov_f sg, fir, ov_f (ov_ln po nc), cod, adr, sto, stc, img, cel, own, sta, cu, pcc, stp, trc, hei, val, stk) v1 := by
  unfold wpX_status wpY_status
  rcases ov_ml fl v1 with h | ⟨h, m, hm, rfl⟩
  · exact ov_xdead h (br_t rfl (ov_ydead h (br_f (by decide) ⟨rfl, ov_in H⟩)))
  · have v2 : vp_in (nI m) 2 := vp_in_nI (by omega) (by omega)
    exact ov_xlive h hm (br_f (by decide) ⟨v2, ov_ylive h hm (br_t rfl ⟨v2, rfl, ov_in H⟩)⟩)
theorem ov_steps (H : ov_R MS MP RM MD sc np nc fl rs pa sg po op aa bn par pmk bas cur fir cod adr sto stc img cel own sta cu pcc stp trc hei val stk bb pos) (v1 : Int32) : wpX_steps (fun r => wpY_steps (fun r' => r' = r ∧ i_Rel k (nI MS, nI MP, nI RM, nI MD, nI sc, nI np, nI nc, fl, rs, par, pmk, ov_f (ov_sz sg po nc), bas, cur, ov_f sg, fir, ov_f (ov_ln po nc), cod, adr, sto, stc, img, cel, own, sta, cu, pcc, stp, trc, hei, val, stk) (nI MS, nI MP, nI RM, nI MD, nI sc, nI np, nI nc, fl, ov_f pa, ov_f sg, ov_f po, ov_f op, ov_f aa, bb, val, sta, pos, stp, trc, hei, stk)) (nI MS, nI MP, nI RM, nI MD, nI sc, nI np, nI nc, fl, ov_f pa, ov_f sg, ov_f po, ov_f op, ov_f aa, bb, val, sta, pos, stp, trc, hei, stk) v1) (nI MS, nI MP, nI RM, nI MD, nI sc, nI np, nI nc, fl, rs, par, pmk, ov_f (ov_sz sg po nc), bas, cur, ov_f sg, fir, ov_f (ov_ln po nc), cod, adr, sto, stc, img, cel, own, sta, cu, pcc, stp, trc, hei, val, stk) v1 := by
  unfold wpX_steps wpY_steps
  rcases ov_ml fl v1 with h | ⟨h, m, hm, rfl⟩
  · exact ov_xdead h (br_t rfl (ov_ydead h (br_f (by decide) ⟨rfl, ov_in H⟩)))
  · have v2 : vp_in (nI m) 2 := vp_in_nI (by omega) (by omega)
    exact ov_xlive h hm (br_f (by decide) ⟨v2, ov_ylive h hm (br_t rfl ⟨v2, rfl, ov_in H⟩)⟩)
theorem ov_trace (H : ov_R MS MP RM MD sc np nc fl rs pa sg po op aa bn par pmk bas cur fir cod adr sto stc img cel own sta cu pcc stp trc hei val stk bb pos) (v1 : Int32) : wpX_trace (fun r => wpY_trace (fun r' => r' = r ∧ i_Rel k (nI MS, nI MP, nI RM, nI MD, nI sc, nI np, nI nc, fl, rs, par, pmk, ov_f (ov_sz sg po nc), bas, cur, ov_f sg, fir, ov_f (ov_ln po nc), cod, adr, sto, stc, img, cel, own, sta, cu, pcc, stp, trc, hei, val, stk) (nI MS, nI MP, nI RM, nI MD, nI sc, nI np, nI nc, fl, ov_f pa, ov_f sg, ov_f po, ov_f op, ov_f aa, bb, val, sta, pos, stp, trc, hei, stk)) (nI MS, nI MP, nI RM, nI MD, nI sc, nI np, nI nc, fl, ov_f pa, ov_f sg, ov_f po, ov_f op, ov_f aa, bb, val, sta, pos, stp, trc, hei, stk) v1) (nI MS, nI MP, nI RM, nI MD, nI sc, nI np, nI nc, fl, rs, par, pmk, ov_f (ov_sz sg po nc), bas, cur, ov_f sg, fir, ov_f (ov_ln po nc), cod, adr, sto, stc, img, cel, own, sta, cu, pcc, stp, trc, hei, val, stk) v1 := by
  unfold wpX_trace wpY_trace
  rcases ov_ml fl v1 with h | ⟨h, m, hm, rfl⟩
  · exact ov_xdead h (br_t rfl (ov_ydead h (br_f (by decide) ⟨rfl, ov_in H⟩)))
  · have v2 : vp_in (nI m) 2 := vp_in_nI (by omega) (by omega)
    exact ov_xlive h hm (br_f (by decide) ⟨v2, ov_ylive h hm (br_t rfl ⟨v2, rfl, ov_in H⟩)⟩)
theorem ov_position (H : ov_R MS MP RM MD sc np nc fl rs pa sg po op aa bn par pmk bas cur fir cod adr sto stc img cel own sta cu pcc stp trc hei val stk bb pos) (v1 : Int32) : wpX_position (fun r => wpY_position (fun r' => r' = r ∧ i_Rel k (nI MS, nI MP, nI RM, nI MD, nI sc, nI np, nI nc, fl, rs, par, pmk, ov_f (ov_sz sg po nc), bas, cur, ov_f sg, fir, ov_f (ov_ln po nc), cod, adr, sto, stc, img, cel, own, sta, cu, pcc, stp, trc, hei, val, stk) (nI MS, nI MP, nI RM, nI MD, nI sc, nI np, nI nc, fl, ov_f pa, ov_f sg, ov_f po, ov_f op, ov_f aa, bb, val, sta, pos, stp, trc, hei, stk)) (nI MS, nI MP, nI RM, nI MD, nI sc, nI np, nI nc, fl, ov_f pa, ov_f sg, ov_f po, ov_f op, ov_f aa, bb, val, sta, pos, stp, trc, hei, stk) v1) (nI MS, nI MP, nI RM, nI MD, nI sc, nI np, nI nc, fl, rs, par, pmk, ov_f (ov_sz sg po nc), bas, cur, ov_f sg, fir, ov_f (ov_ln po nc), cod, adr, sto, stc, img, cel, own, sta, cu, pcc, stp, trc, hei, val, stk) v1 := by
  unfold wpX_position wpY_position
  rcases ov_ml fl v1 with h | ⟨h, m, hm, rfl⟩
  · exact ov_xdead h (br_t rfl (ov_ydead h (br_f (by decide) ⟨rfl, ov_in H⟩)))
  · have v2 : vp_in (nI m) 2 := vp_in_nI (by omega) (by omega)
    obtain ⟨S, D⟩ := H.2 h
    obtain ⟨q, o, hh, a1, a2, a3, a4, a5, a6⟩ := D.2.2 m hm
    refine ov_xlive h hm (br_f (by decide) (ov_xhere H.1.2.1 S.2.2.1 hm a1 a3 a4 (ov_ylive h hm (br_t rfl ⟨v2, ?_, ov_in H⟩))))
    rw [nI_clamp (by omega)]
    exact a5
theorem ov_value (H : ov_R MS MP RM MD sc np nc fl rs pa sg po op aa bn par pmk bas cur fir cod adr sto stc img cel own sta cu pcc stp trc hei val stk bb pos) (v1 v2 : Int32) : wpX_value (fun r => wpY_value (fun r' => r' = r ∧ i_Rel k (nI MS, nI MP, nI RM, nI MD, nI sc, nI np, nI nc, fl, rs, par, pmk, ov_f (ov_sz sg po nc), bas, cur, ov_f sg, fir, ov_f (ov_ln po nc), cod, adr, sto, stc, img, cel, own, sta, cu, pcc, stp, trc, hei, val, stk) (nI MS, nI MP, nI RM, nI MD, nI sc, nI np, nI nc, fl, ov_f pa, ov_f sg, ov_f po, ov_f op, ov_f aa, bb, val, sta, pos, stp, trc, hei, stk)) (nI MS, nI MP, nI RM, nI MD, nI sc, nI np, nI nc, fl, ov_f pa, ov_f sg, ov_f po, ov_f op, ov_f aa, bb, val, sta, pos, stp, trc, hei, stk) v1 v2) (nI MS, nI MP, nI RM, nI MD, nI sc, nI np, nI nc, fl, rs, par, pmk, ov_f (ov_sz sg po nc), bas, cur, ov_f sg, fir, ov_f (ov_ln po nc), cod, adr, sto, stc, img, cel, own, sta, cu, pcc, stp, trc, hei, val, stk) v1 v2 := by
  unfold wpX_value wpY_value
  rcases ov_ml fl v1 with h | ⟨h, m, hm, rfl⟩
  · exact ov_xdead h (br_t rfl (ov_ydead h (br_f (by decide) ⟨rfl, ov_in H⟩)))
  · refine ov_xlive h hm (br_f (by decide) ?_)
    rcases ov_rg v2 (n := 11) (by omega) with h1 | ⟨h1, h2, h3⟩ | ⟨j, h1, rfl⟩
    · exact br_t h1 (br_t rfl (ov_ylive h hm (br_t rfl (br_t h1 ⟨rfl, ov_in H⟩))))
    · exact br_f h1 (br_t h2 (br_t rfl (ov_ylive h hm (br_t rfl (br_f h1 (br_f h3 ⟨rfl, ov_in H⟩))))))
    · have v24 : vp_in (nI m * 12 + nI j) 24 := by rw [ov_m12]; exact vp_in_nI (by omega) (by omega)
      exact br_f (nI_pos (by omega)) (br_f (nI_nlt (a := 11) (by omega) (by omega)) (br_f (by decide) ⟨v24, ov_ylive h hm (br_t rfl (br_f (nI_pos (by omega)) (br_t (nI_le (b := 11) (by omega) (by omega)) ⟨v24, rfl, ov_in H⟩)))⟩))
theorem ov_m16 (m h j : Nat) (hj : j < h) : nI m * 16 + nI h - 1 - nI j = nI (m * 16 + (h - 1 - j)) := by
  have e : nI m * 16 = nI (m * 16) := by rw [← pk_mul]; rfl
  rw [e, nI_add, ov_sub1 (by omega), pk_sub (by omega)]
  exact congrArg nI (by omega)
theorem ov_caller (H : ov_R MS MP RM MD sc np nc fl rs pa sg po op aa bn par pmk bas cur fir cod adr sto stc img cel own sta cu pcc stp trc hei val stk bb pos) (v1 v2 : Int32) : wpX_caller (fun r => wpY_caller (fun r' => r' = r ∧ i_Rel k (nI MS, nI MP, nI RM, nI MD, nI sc, nI np, nI nc, fl, rs, par, pmk, ov_f (ov_sz sg po nc), bas, cur, ov_f sg, fir, ov_f (ov_ln po nc), cod, adr, sto, stc, img, cel, own, sta, cu, pcc, stp, trc, hei, val, stk) (nI MS, nI MP, nI RM, nI MD, nI sc, nI np, nI nc, fl, ov_f pa, ov_f sg, ov_f po, ov_f op, ov_f aa, bb, val, sta, pos, stp, trc, hei, stk)) (nI MS, nI MP, nI RM, nI MD, nI sc, nI np, nI nc, fl, ov_f pa, ov_f sg, ov_f po, ov_f op, ov_f aa, bb, val, sta, pos, stp, trc, hei, stk) v1 v2) (nI MS, nI MP, nI RM, nI MD, nI sc, nI np, nI nc, fl, rs, par, pmk, ov_f (ov_sz sg po nc), bas, cur, ov_f sg, fir, ov_f (ov_ln po nc), cod, adr, sto, stc, img, cel, own, sta, cu, pcc, stp, trc, hei, val, stk) v1 v2 := by
  unfold wpX_caller wpY_caller
  rcases ov_ml fl v1 with h | ⟨h, m, hm, rfl⟩
  · exact ov_xdead h (br_t rfl (ov_ydead h (br_f (by decide) ⟨rfl, ov_in H⟩)))
  · have vm : vp_in (nI m) 2 := vp_in_nI (by omega) (by omega)
    have ec : (nI m).toNatClampNeg = m := nI_clamp (by omega)
    have hD := H.1.1.2.2.2
    obtain ⟨S, D⟩ := H.2 h
    obtain ⟨q, o, hh, a1, a2, a3, a4, a5, a6, a7, a8⟩ := D.2.2 m hm
    refine ov_xlive h hm (br_f (by decide) ?_)
    rcases ov_ix v2 (n := hh) (by omega) with h1 | ⟨h1, h2, h3⟩ | ⟨j, h1, rfl⟩
    · exact br_t h1 (ov_ylive h hm (br_t rfl (br_t h1 ⟨rfl, ov_in H⟩)))
    · have h4 : ¬ v2 < hei (nI m).toNatClampNeg := by rw [ec, a6]; exact h3
      exact br_f h1 ⟨vm, br_f h4 (ov_ylive h hm (br_t rfl (br_f h1 ⟨vm, br_f h4 ⟨rfl, ov_in H⟩⟩)))⟩
    · have h4 : nI j < hei (nI m).toNatClampNeg := by rw [ec, a6]; exact nI_lt h1 (by omega)
      have h5 : vp_in (nI m * 16 + hei (nI m).toNatClampNeg - 1 - nI j) 32 := by
        rw [ec, a6, ov_m16 m hh j h1]; exact vp_in_nI (by omega) (by omega)
      exact br_f (nI_pos (by omega)) ⟨vm, br_t h4 ⟨vm, h5, ov_ylive h hm (br_t rfl (br_f (nI_pos (by omega)) ⟨vm, br_t h4 ⟨vm, h5, rfl, ov_in H⟩⟩))⟩⟩
theorem ov_xc4 {c : Nat} {P : Nat → Prop} (hc : c ≤ 4) (h0 : P 0) (h1 : P 1) (h2 : P 2) (h3 : P 3) (h4 : P 4) : P c := by
  rcases (by omega : c = 0 ∨ c = 1 ∨ c = 2 ∨ c = 3 ∨ c = 4) with e | e | e | e | e <;> subst e <;> assumption
theorem ov_procedureMap (H : ov_R MS MP RM MD sc np nc fl rs pa sg po op aa bn par pmk bas cur fir cod adr sto stc img cel own sta cu pcc stp trc hei val stk bb pos) (v1 v2 : Int32) : wpX_procedureMap (fun r => wpY_procedureMap (fun r' => r' = r ∧ i_Rel k (nI MS, nI MP, nI RM, nI MD, nI sc, nI np, nI nc, fl, rs, par, pmk, ov_f (ov_sz sg po nc), bas, cur, ov_f sg, fir, ov_f (ov_ln po nc), cod, adr, sto, stc, img, cel, own, sta, cu, pcc, stp, trc, hei, val, stk) (nI MS, nI MP, nI RM, nI MD, nI sc, nI np, nI nc, fl, ov_f pa, ov_f sg, ov_f po, ov_f op, ov_f aa, bb, val, sta, pos, stp, trc, hei, stk)) (nI MS, nI MP, nI RM, nI MD, nI sc, nI np, nI nc, fl, ov_f pa, ov_f sg, ov_f po, ov_f op, ov_f aa, bb, val, sta, pos, stp, trc, hei, stk) v1 v2) (nI MS, nI MP, nI RM, nI MD, nI sc, nI np, nI nc, fl, rs, par, pmk, ov_f (ov_sz sg po nc), bas, cur, ov_f sg, fir, ov_f (ov_ln po nc), cod, adr, sto, stc, img, cel, own, sta, cu, pcc, stp, trc, hei, val, stk) v1 v2 := by
  have G := H.1.2.1
  have h12 := ov_g12 G
  have h8 := ov_g8 G
  unfold wpX_procedureMap wpY_procedureMap
  rcases ov_ix v1 (n := np) (by omega) with h1 | ⟨h1, h2, h3⟩ | ⟨p, hp, rfl⟩
  · exact br_t h1 (br_t rfl (br_t h1 ⟨rfl, ov_in H⟩))
  · exact br_f h1 (br_t h2 (br_t rfl (br_f h1 (br_t h2 ⟨rfl, ov_in H⟩))))
  · have n1 : ¬ nI p < 0 := nI_pos (by omega)
    have n2 : ¬ nI np ≤ nI p := nI_ge hp (by omega)
    have vp : vp_in (nI p) 12 := vp_in_nI (by omega) (by omega)
    have ec : (nI p).toNatClampNeg = p := nI_clamp (by omega)
    refine br_f n1 (br_f n2 (br_f (by decide) ?_))
    rcases ov_rg v2 (n := 4) (by omega) with h1 | ⟨h1, h2, h3⟩ | ⟨c, hc, rfl⟩
    · exact br_t h1 (br_t rfl (br_f n1 (br_f n2 (br_t h1 ⟨rfl, ov_in H⟩))))
    · exact br_f h1 (br_t h2 (br_t rfl (br_f n1 (br_f n2 (br_f h1 (br_f h3 ⟨rfl, ov_in H⟩))))))
    · refine br_f (nI_pos (by omega)) (br_f (nI_nlt (a := 4) (by omega) (by omega)) (br_f (by decide) ?_))
      have n3 : ¬ nI c < 0 := nI_pos (by omega)
      have n4 : nI c ≤ 4 := nI_le (b := 4) (by omega) (by omega)
      rcases (by omega : c = 2 ∨ c = 3 ∨ (c ≠ 2 ∧ c ≠ 3)) with e | e | ⟨e2, e3⟩
      · subst e
        exact br_t rfl ⟨vp, br_f n1 (br_f n2 (br_f n3 (br_t n4 (br_t rfl ⟨vp, rfl, ov_in H⟩))))⟩
      · subst e
        refine br_f (by decide) (br_t rfl ⟨vp, br_f n1 (br_f n2 (br_f n3 (br_t n4 (br_f (by decide) (br_t rfl (ov_ylen G (by omega) rfl ⟨?_, ov_in H⟩))))))⟩)
        rw [ec]; rfl
      · have m2 : ¬ nI c = 2 := fun z => e2 ((nI_eq (b := 2) (by omega) (by omega)).mp z)
        have m3 : ¬ nI c = 3 := fun z => e3 ((nI_eq (b := 3) (by omega) (by omega)).mp z)
        refine br_f m2 (br_f m3 ?_)
        by_cases hf : fl = 0
        · exact br_t hf (br_f n1 (br_f n2 (br_f n3 (br_t n4 (br_f m2 (br_f m3 (br_t hf ⟨rfl, ov_in H⟩)))))))
        · obtain ⟨S, D⟩ := H.2 hf
          have B := H.1.2.2.2.2.2.2
          refine br_f hf ?_
          rcases (by omega : c = 4 ∨ c = 1 ∨ c = 0) with e | e | e
          · subst e
            refine br_t rfl ⟨vp, br_f n1 (br_f n2 (br_f n3 (br_t n4 (br_f m2 (br_f m3 (br_f hf (br_t rfl ?_)))))))⟩
            refine ov_ysn G B hp rfl (fun z => ⟨?_, ov_in H⟩) (fun z => ⟨?_, ov_in H⟩)
            · rw [ec, (S.2.2.2.1 p hp).1 z]
            · rw [ec, (S.2.2.2.1 p hp).2 z]
          · subst e
            obtain ⟨q1, q2⟩ := ov_ad12 G S.2.2.1 (m := 1) (by omega) hp
            refine br_f (by decide) (br_t rfl ⟨q1, br_f n1 (br_f n2 (br_f n3 (br_t n4 (br_f m2 (br_f m3 (br_f hf (br_f (by decide) (br_f (by decide) ?_))))))))⟩)
            exact ov_yadr G (m := 1) (by omega) hp rfl rfl ⟨q2.symm, ov_in H⟩
          · subst e
            obtain ⟨q1, q2⟩ := ov_ad12 G S.2.2.1 (m := 0) (by omega) hp
            refine br_f (by decide) (br_f (by decide) ⟨q1, br_f n1 (br_f n2 (br_f n3 (br_t n4 (br_f m2 (br_f m3 (br_f hf (br_f (by decide) (br_t rfl ?_))))))))⟩)
            exact ov_yadr G (m := 0) (by omega) hp rfl rfl ⟨q2.symm, ov_in H⟩
theorem ov_segmentMap (H : ov_R MS MP RM MD sc np nc fl rs pa sg po op aa bn par pmk bas cur fir cod adr sto stc img cel own sta cu pcc stp trc hei val stk bb pos) (v1 v2 : Int32) : wpX_segmentMap (fun r => wpY_segmentMap (fun r' => r' = r ∧ i_Rel k (nI MS, nI MP, nI RM, nI MD, nI sc, nI np, nI nc, fl, rs, par, pmk, ov_f (ov_sz sg po nc), bas, cur, ov_f sg, fir, ov_f (ov_ln po nc), cod, adr, sto, stc, img, cel, own, sta, cu, pcc, stp, trc, hei, val, stk) (nI MS, nI MP, nI RM, nI MD, nI sc, nI np, nI nc, fl, ov_f pa, ov_f sg, ov_f po, ov_f op, ov_f aa, bb, val, sta, pos, stp, trc, hei, stk)) (nI MS, nI MP, nI RM, nI MD, nI sc, nI np, nI nc, fl, ov_f pa, ov_f sg, ov_f po, ov_f op, ov_f aa, bb, val, sta, pos, stp, trc, hei, stk) v1 v2) (nI MS, nI MP, nI RM, nI MD, nI sc, nI np, nI nc, fl, rs, par, pmk, ov_f (ov_sz sg po nc), bas, cur, ov_f sg, fir, ov_f (ov_ln po nc), cod, adr, sto, stc, img, cel, own, sta, cu, pcc, stp, trc, hei, val, stk) v1 v2 := by
  have G := H.1.2.1
  have h8 := ov_g8 G
  unfold wpX_segmentMap wpY_segmentMap
  rcases ov_ix v1 (n := sc) (by omega) with h1 | ⟨h1, h2, h3⟩ | ⟨s, hs, rfl⟩
  · exact br_t h1 (br_t rfl (br_t h1 ⟨rfl, ov_in H⟩))
  · exact br_f h1 (br_t h2 (br_t rfl (br_f h1 (br_t h2 ⟨rfl, ov_in H⟩))))
  · have n1 : ¬ nI s < 0 := nI_pos (by omega)
    have n2 : ¬ nI sc ≤ nI s := nI_ge hs (by omega)
    have vs : vp_in (nI s) 8 := vp_in_nI (by omega) (by omega)
    have ec : (nI s).toNatClampNeg = s := nI_clamp (by omega)
    refine br_f n1 (br_f n2 (br_f (by decide) ?_))
    rcases ov_rg v2 (n := 2) (by omega) with h1 | ⟨h1, h2, h3⟩ | ⟨c, hc, rfl⟩
    · exact br_t h1 (br_t rfl (br_f n1 (br_f n2 (br_t h1 ⟨rfl, ov_in H⟩))))
    · exact br_f h1 (br_t h2 (br_t rfl (br_f n1 (br_f n2 (br_f h1 (br_f h3 ⟨rfl, ov_in H⟩))))))
    · have n3 : ¬ nI c < 0 := nI_pos (by omega)
      have n4 : nI c ≤ 2 := nI_le (b := 2) (by omega) (by omega)
      refine br_f n3 (br_f (nI_nlt (a := 2) (by omega) (by omega)) (br_f (by decide) ?_))
      rcases (by omega : c = 0 ∨ c = 2 ∨ c = 1) with e | e | e
      · subst e
        refine br_t rfl ⟨vs, br_f n1 (br_f n2 (br_f n3 (br_t n4 (br_t rfl ?_))))⟩
        by_cases e : s = 0
        · subst e
          refine br_t rfl ⟨?_, ov_in H⟩
          rw [ec]; exact H.1.2.2.1.1.symm
        · refine br_f (nI_ne0 (by omega) (by omega)) ⟨vs, ?_, ov_in H⟩
          rw [ov_at (by omega), ec, H.1.2.2.1.2 s (by omega) hs]
      · subst e
        refine br_f (by decide) (br_t rfl ⟨vs, br_f n1 (br_f n2 (br_f n3 (br_t n4 (br_f (by decide) (br_t rfl (ov_ysz G (by omega) rfl ⟨?_, ov_in H⟩))))))⟩)
        rw [ec]; rfl
      · subst e
        refine br_f (by decide) (br_f (by decide) ?_)
        by_cases hf : fl = 0
        · exact br_t hf (br_f n1 (br_f n2 (br_f n3 (br_t n4 (br_f (by decide) (br_f (by decide) (br_t hf ⟨rfl, ov_in H⟩)))))))
        · obtain ⟨S, D⟩ := H.2 hf
          refine br_f hf ⟨vs, br_f n1 (br_f n2 (br_f n3 (br_t n4 (br_f (by decide) (br_f (by decide) (br_f hf (ov_yba G hs rfl ⟨?_, ov_in H⟩)))))))⟩
          rw [ec, S.2.1 s hs]
theorem ov_source (H : ov_R MS MP RM MD sc np nc fl rs pa sg po op aa bn par pmk bas cur fir cod adr sto stc img cel own sta cu pcc stp trc hei val stk bb pos) (v1 v2 : Int32) : wpX_source (fun r => wpY_source (fun r' => r' = r ∧ i_Rel k (nI MS, nI MP, nI RM, nI MD, nI sc, nI np, nI nc, fl, rs, par, pmk, ov_f (ov_sz sg po nc), bas, cur, ov_f sg, fir, ov_f (ov_ln po nc), cod, adr, sto, stc, img, cel, own, sta, cu, pcc, stp, trc, hei, val, stk) (nI MS, nI MP, nI RM, nI MD, nI sc, nI np, nI nc, fl, ov_f pa, ov_f sg, ov_f po, ov_f op, ov_f aa, bb, val, sta, pos, stp, trc, hei, stk)) (nI MS, nI MP, nI RM, nI MD, nI sc, nI np, nI nc, fl, ov_f pa, ov_f sg, ov_f po, ov_f op, ov_f aa, bb, val, sta, pos, stp, trc, hei, stk) v1 v2) (nI MS, nI MP, nI RM, nI MD, nI sc, nI np, nI nc, fl, rs, par, pmk, ov_f (ov_sz sg po nc), bas, cur, ov_f sg, fir, ov_f (ov_ln po nc), cod, adr, sto, stc, img, cel, own, sta, cu, pcc, stp, trc, hei, val, stk) v1 v2 := by
  have G := H.1.2.1
  have h12 := ov_g12 G
  have h128 := ov_g128 G
  have B := H.1.2.2.2.2.2.2
  unfold wpX_source wpY_source
  rcases ov_ix v1 (n := np) (by omega) with h1 | ⟨h1, h2, h3⟩ | ⟨p, hp, rfl⟩
  · exact br_t h1 (br_t rfl (br_t h1 ⟨rfl, ov_in H⟩))
  · exact br_f h1 (br_t h2 (br_t rfl (br_f h1 (br_f h3 ⟨rfl, ov_in H⟩))))
  · have n1 : ¬ nI p < 0 := nI_pos (by omega)
    have n2 : ¬ nI np ≤ nI p := nI_ge hp (by omega)
    have n3 : nI p < nI np := nI_lt hp (by omega)
    have vp : vp_in (nI p) 12 := vp_in_nI (by omega) (by omega)
    have el : ov_f (ov_ln po nc) (nI p).toNatClampNeg = nI (ov_ln po nc p) := ov_at (by omega)
    have hln := ov_gln G p
    refine br_f n1 (br_f n2 (br_f (by decide) ?_))
    have bad : (∀ i, i < ov_ln po nc p → v2 ≠ nI i) → wpY_source (fun r' => r' = -1 ∧ i_Rel k (nI MS, nI MP, nI RM, nI MD, nI sc, nI np, nI nc, fl, rs, par, pmk, ov_f (ov_sz sg po nc), bas, cur, ov_f sg, fir, ov_f (ov_ln po nc), cod, adr, sto, stc, img, cel, own, sta, cu, pcc, stp, trc, hei, val, stk) (nI MS, nI MP, nI RM, nI MD, nI sc, nI np, nI nc, fl, ov_f pa, ov_f sg, ov_f po, ov_f op, ov_f aa, bb, val, sta, pos, stp, trc, hei, stk)) (nI MS, nI MP, nI RM, nI MD, nI sc, nI np, nI nc, fl, ov_f pa, ov_f sg, ov_f po, ov_f op, ov_f aa, bb, val, sta, pos, stp, trc, hei, stk) (nI p) v2 := fun hb => by
      refine br_f n1 (br_t n3 (ov_yfind G (by omega) rfl (fun i hi e => absurd e (hb i hi)) (fun _ => br_f (by decide) ⟨rfl, ov_in H⟩)))
    rcases ov_ix v2 (n := ov_ln po nc p) (by omega) with h1 | ⟨h1, h2, h3⟩ | ⟨i, hi, rfl⟩
    · exact br_t h1 (bad (fun i hi e => by rw [e] at h1; exact nI_pos (by omega) h1))
    · exact br_f h1 ⟨vp, br_f (by rw [el]; exact h3) (bad (fun i hi e => by rw [e] at h3; exact h3 (nI_lt hi (by omega))))⟩
    · obtain ⟨hK, hP⟩ := ov_po_at (ov_gM G) hi
      obtain ⟨o1, o2, o3, o4⟩ := ov_gO G hK
      have ei := ov_fia G H.1.2.2.2.2.1 hp i
      refine br_f (nI_pos (by omega)) ⟨vp, br_t (by rw [el]; exact nI_lt hi (by omega)) ⟨vp, by rw [ei]; exact vp_in_nI (by omega) (by omega), br_f n1 (br_t n3 (ov_yfind G (by omega) rfl (fun j hj e => ?_) (fun hb => absurd rfl (hb i hi))))⟩⟩
      have ej : i = j := (nI_eq (by omega) (by omega)).mp e
      subst ej
      have vk : vp_in (nI (ov_fi po nc p + i)) 128 := vp_in_nI (by omega) (by omega)
      refine br_t (nI_pos' (by omega)) ⟨vk, vk, vk, ?_, ov_in H⟩
      rw [ei, ov_at (by omega), ov_at (by omega), nI_clamp (by omega), ov_b255 B hK o3, ov_src, H.1.2.2.2.2.2.1 _ hK]
end
end
section
/-! the methods that change the program: segments, procedures, assign -/
section
variable {MS MP RM MD sc np nc : Nat} {fl rs : Int32} {pa sg po op aa bn : Nat → Nat} {par pmk bas cur fir cod adr sto stc img cel own sta cu pcc stp trc hei val stk bb pos : Nat → Int32} {k : Nat}
theorem ov_on_new (D : ov_Dn pa sc) (h8 : sc < 8) {j : Nat} (hj : j < sc) : ov_Dn (ov_up pa sc j) (sc + 1) ∧ (∀ s t, s < sc → ov_on (ov_up pa sc j) s t = ov_on pa s t) ∧ (∀ t, ov_on (ov_up pa sc j) sc t = (ov_on pa j t || decide (t = sc))) := by
  have D' : ov_Dn (ov_up pa sc j) (sc + 1) := by
    intro s h0 hs
    by_cases e : s = sc
    · rw [e, ov_ups]; exact hj
    · rw [ov_upn e]; exact D s h0 (by omega)
  have h1 : ∀ s t, s < sc → ov_on (ov_up pa sc j) s t = ov_on pa s t := fun s t hs =>
    ov_onF_cg D (fun r hr => ov_upn (by omega)) 8 s hs
  refine ⟨D', h1, fun t => ?_⟩
  rw [ov_on_eq D' (by omega) (by omega), ov_ups, decide_eq_true (p := 0 < sc) (by omega), Bool.true_and, h1 j t hj, Bool.or_comm]
  congr 1
  exact decide_eq_decide.mpr ⟨fun z => z.symm, fun z => z.symm⟩
theorem ov_addSegment (H : ov_R MS MP RM MD sc np nc fl rs pa sg po op aa bn par pmk bas cur fir cod adr sto stc img cel own sta cu pcc stp trc hei val stk bb pos) (v1 : Int32) : wpX_addSegment (fun r u' => wpY_addSegment (fun r' v' => r' = r ∧ i_Rel k u' v') (nI MS, nI MP, nI RM, nI MD, nI sc, nI np, nI nc, fl, ov_f pa, ov_f sg, ov_f po, ov_f op, ov_f aa, bb, val, sta, pos, stp, trc, hei, stk) v1) (nI MS, nI MP, nI RM, nI MD, nI sc, nI np, nI nc, fl, rs, par, pmk, ov_f (ov_sz sg po nc), bas, cur, ov_f sg, fir, ov_f (ov_ln po nc), cod, adr, sto, stc, img, cel, own, sta, cu, pcc, stp, trc, hei, val, stk) v1 := by
  have G := H.1.2.1
  have h8 := ov_g8 G
  have h1s := ov_g1 G
  have hMS := H.1.1.1
  unfold wpX_addSegment wpY_addSegment
  by_cases hf : sc < MS
  · have l1 : nI sc < nI MS := nI_lt hf (by omega)
    refine br_t l1 ?_
    rcases ov_ix v1 (n := sc) (by omega) with h1 | ⟨h1, h2, h3⟩ | ⟨j, hj, rfl⟩
    · exact br_t h1 (br_t rfl (br_t l1 (br_t h1 ⟨rfl, ov_in H⟩)))
    · exact br_f h1 (br_t h2 (br_t rfl (br_t l1 (br_f h1 (br_f h3 ⟨rfl, ov_in H⟩)))))
    · have n1 : ¬ nI j < 0 := nI_pos (by omega)
      have n2 : ¬ nI sc ≤ nI j := nI_ge hj (by omega)
      have n3 : nI j < nI sc := nI_lt hj (by omega)
      have v8 : vp_in (nI sc) 8 := vp_in_nI (by omega) (by omega)
      have vj : vp_in (nI j) 8 := vp_in_nI (by omega) (by omega)
      have ec : (nI sc).toNatClampNeg = sc := nI_clamp (by omega)
      have ej : (nI j).toNatClampNeg = j := nI_clamp (by omega)
      refine br_f n1 (br_f n2 (br_f (by decide) ⟨v8, nm_r (e' := upd par sc (nI j)) (by rw [ec]) ⟨vj, v8, nm_r (e' := upd pmk sc (pmk j ||| ((1 : Int32) <<< (nI sc &&& 31)))) (by rw [ec, ej]) (nm_r (nI_1 sc) (br_t l1 (br_f n1 (br_t n3 ⟨v8, nm_r (e' := ov_f (ov_up pa sc j)) (by rw [ec, ov_f_up]) (nm_r (nI_1 sc) ⟨nI_pred sc, ?_⟩)⟩))))⟩⟩))
      obtain ⟨D', o1, o2⟩ := ov_on_new (ov_gD G) (by omega) hj
      refine ov_in0 ⟨H.1.1, ⟨⟨by omega, by omega, G.1.2.2.1, G.1.2.2.2⟩, D', fun p hp => Nat.lt_succ_of_lt (ov_gs G hp), G.2.2.2⟩, ⟨?_, ?_⟩, ?_, H.1.2.2.2.2⟩
      · rw [pk_un (by omega)]; exact H.1.2.2.1.1
      · intro s h0 hs
        by_cases e : s = sc
        · rw [e, pk_us, ov_ups]
        · rw [pk_un e, ov_upn e]; exact H.1.2.2.1.2 s h0 (by omega)
      · intro s hs t ht
        by_cases e : s = sc
        · rw [e, pk_us, o2, b_or, H.1.2.2.2.1 j hj t ht, ov_bit1 sc (by omega) t ht]
        · rw [pk_un e, o1 s t (by omega)]; exact H.1.2.2.2.1 s (by omega) t ht
  · have l1 : ¬ nI sc < nI MS := nI_nlt (by omega) (by omega)
    exact br_f l1 (br_f l1 ⟨rfl, ov_in H⟩)
theorem ov_addProcedure (H : ov_R MS MP RM MD sc np nc fl rs pa sg po op aa bn par pmk bas cur fir cod adr sto stc img cel own sta cu pcc stp trc hei val stk bb pos) (v1 : Int32) : wpX_addProcedure (fun r u' => wpY_addProcedure (fun r' v' => r' = r ∧ i_Rel k u' v') (nI MS, nI MP, nI RM, nI MD, nI sc, nI np, nI nc, fl, ov_f pa, ov_f sg, ov_f po, ov_f op, ov_f aa, bb, val, sta, pos, stp, trc, hei, stk) v1) (nI MS, nI MP, nI RM, nI MD, nI sc, nI np, nI nc, fl, rs, par, pmk, ov_f (ov_sz sg po nc), bas, cur, ov_f sg, fir, ov_f (ov_ln po nc), cod, adr, sto, stc, img, cel, own, sta, cu, pcc, stp, trc, hei, val, stk) v1 := by
  have G := H.1.2.1
  have h8 := ov_g8 G
  have h12 := ov_g12 G
  have hMP := H.1.1.2.1
  unfold wpX_addProcedure wpY_addProcedure
  by_cases hf : np < MP
  · have l1 : nI np < nI MP := nI_lt hf (by omega)
    refine br_t l1 ?_
    rcases ov_ix v1 (n := sc) (by omega) with h1 | ⟨h1, h2, h3⟩ | ⟨j, hj, rfl⟩
    · exact br_t h1 (br_t rfl (br_t l1 (br_t h1 ⟨rfl, ov_in H⟩)))
    · exact br_f h1 (br_t h2 (br_t rfl (br_t l1 (br_f h1 (br_f h3 ⟨rfl, ov_in H⟩)))))
    · have n1 : ¬ nI j < 0 := nI_pos (by omega)
      have n2 : ¬ nI sc ≤ nI j := nI_ge hj (by omega)
      have n3 : nI j < nI sc := nI_lt hj (by omega)
      have v12 : vp_in (nI np) 12 := vp_in_nI (by omega) (by omega)
      have ec : (nI np).toNatClampNeg = np := nI_clamp (by omega)
      refine br_f n1 (br_f n2 (br_f (by decide) ⟨v12, nm_r (e' := ov_f (ov_up sg np j)) (by rw [ec, ov_f_up]) ⟨v12, nm_r (e' := upd fir np (nI nc)) (by rw [ec]) (nm_r (nI_1 np) (br_t l1 (br_f n1 (br_t n3 ⟨v12, nm_r (e' := ov_f (ov_up sg np j)) (by rw [ec, ov_f_up]) (nm_r (nI_1 np) ⟨nI_pred np, ?_⟩)⟩))))⟩⟩))
      have e1 : ov_sz (ov_up sg np j) po nc = ov_sz sg po nc := by
        funext s
        refine ov_cn_congr (fun k hk => ?_)
        have := ov_gp G hk
        rw [ov_upn (by omega)]
      have hin := ov_in0 (k := k) (MS := MS) (MP := MP) (RM := RM) (MD := MD) (sc := sc) (np := np + 1) (nc := nc) (rs := rs) (pa := pa) (sg := ov_up sg np j) (po := po) (op := op) (aa := aa) (bn := bn) (par := par) (pmk := pmk) (bas := bas) (cur := cur) (fir := upd fir np (nI nc)) (cod := cod) (adr := adr) (sto := sto) (stc := stc) (img := img) (cel := cel) (own := own) (sta := sta) (cu := cu) (pcc := pcc) (stp := stp) (trc := trc) (hei := hei) (val := val) (stk := stk) (bb := bb) (pos := pos)
        ⟨H.1.1, ⟨⟨G.1.1, G.1.2.1, by omega, G.1.2.2.2⟩, ov_gD G, ?_, fun k hk => Nat.lt_succ_of_lt (ov_gp G hk), G.2.2.2.2⟩, H.1.2.2.1, H.1.2.2.2.1, ?_, H.1.2.2.2.2.2⟩
      · rw [e1] at hin
        exact hin
      · intro p hp
        by_cases e : p = np
        · rw [e, ov_ups]; exact hj
        · rw [ov_upn e]; exact ov_gs G (by omega)
      · intro p hp
        by_cases e : p = np
        · rw [e, pk_us, ov_fi_np G.2.2.2.1]
        · rw [pk_un e]; exact H.1.2.2.2.2.1 p (by omega)
  · have l1 : ¬ nI np < nI MP := nI_nlt (by omega) (by omega)
    exact br_f l1 (br_f l1 ⟨rfl, ov_in H⟩)
/-- moving procedure p to segment s: the rest of a segment's size, and what p adds -/
def ov_rst (sg po : Nat → Nat) (nc p t : Nat) : Nat := ov_cn (fun k => decide (sg (po k) = t ∧ po k ≠ p)) nc
theorem ov_sz_rT {p t : Nat} (e : sg p = t) : ov_sz sg po nc t = ov_rst sg po nc p t + ov_ln po nc p := by
  refine ov_cn_add (fun k _ => ?_)
  simp only [decide_eq_true_iff]
  constructor
  · constructor
    · intro h
      by_cases h2 : po k = p
      · exact Or.inr h2
      · exact Or.inl ⟨h, h2⟩
    · intro h
      rcases h with h | h
      · exact h.1
      · rw [h]; exact e
  · intro ⟨h1, h2⟩
    exact h1.2 h2
theorem ov_sz_rF {p t : Nat} (e : sg p ≠ t) : ov_sz sg po nc t = ov_rst sg po nc p t := by
  refine ov_cn_congr (fun k _ => decide_eq_decide.mpr ⟨fun h => ⟨h, fun z => e (by rw [← z]; exact h)⟩, fun h => h.1⟩)
theorem ov_rst_up {p s t : Nat} : ov_rst (ov_up sg p s) po nc p t = ov_rst sg po nc p t := by
  refine ov_cn_congr (fun k _ => decide_eq_decide.mpr ?_)
  constructor
  · intro ⟨h1, h2⟩; rw [ov_upn h2] at h1; exact ⟨h1, h2⟩
  · intro ⟨h1, h2⟩; exact ⟨by rw [ov_upn h2]; exact h1, h2⟩
theorem ov_size1 (p : Nat) : upd (ov_f (ov_sz sg po nc)) (sg p) (nI (ov_sz sg po nc (sg p)) - nI (ov_ln po nc p)) = ov_f (ov_rst sg po nc p) := by
  funext t
  by_cases e : t = sg p
  · rw [e, pk_us, ov_sz_rT rfl, pk_sub (by omega)]
    exact congrArg nI (by omega)
  · rw [pk_un e]
    show nI _ = nI _
    rw [ov_sz_rF (fun z => e z.symm)]
theorem ov_size2 (p s : Nat) : upd (ov_f (ov_rst sg po nc p)) s (nI (ov_rst sg po nc p s) + nI (ov_ln po nc p)) = ov_f (ov_sz (ov_up sg p s) po nc) := by
  funext t
  by_cases e : t = s
  · rw [e, pk_us, nI_add]
    show nI _ = nI _
    rw [ov_sz_rT (sg := ov_up sg p s) (p := p) ov_ups, ov_rst_up]
  · rw [pk_un e]
    show nI _ = nI _
    rw [ov_sz_rF (sg := ov_up sg p s) (p := p) (by rw [ov_ups]; exact fun z => e z.symm), ov_rst_up]
theorem ov_assign (H : ov_R MS MP RM MD sc np nc fl rs pa sg po op aa bn par pmk bas cur fir cod adr sto stc img cel own sta cu pcc stp trc hei val stk bb pos) (v1 v2 : Int32) : wpX_assign (fun r u' => wpY_assign (fun r' v' => r' = r ∧ i_Rel k u' v') (nI MS, nI MP, nI RM, nI MD, nI sc, nI np, nI nc, fl, ov_f pa, ov_f sg, ov_f po, ov_f op, ov_f aa, bb, val, sta, pos, stp, trc, hei, stk) v1 v2) (nI MS, nI MP, nI RM, nI MD, nI sc, nI np, nI nc, fl, rs, par, pmk, ov_f (ov_sz sg po nc), bas, cur, ov_f sg, fir, ov_f (ov_ln po nc), cod, adr, sto, stc, img, cel, own, sta, cu, pcc, stp, trc, hei, val, stk) v1 v2 := by
  have G := H.1.2.1
  have h8 := ov_g8 G
  have h12 := ov_g12 G
  unfold wpX_assign wpY_assign
  rcases ov_ix v1 (n := np) (by omega) with h1 | ⟨h1, h2, h3⟩ | ⟨p, hp, rfl⟩
  · exact br_t h1 (br_t rfl (br_t h1 ⟨rfl, ov_in H⟩))
  · exact br_f h1 (br_t h2 (br_t rfl (br_f h1 (br_t h2 ⟨rfl, ov_in H⟩))))
  · have n1 : ¬ nI p < 0 := nI_pos (by omega)
    have n2 : ¬ nI np ≤ nI p := nI_ge hp (by omega)
    refine br_f n1 (br_f n2 (br_f (by decide) ?_))
    rcases ov_ix v2 (n := sc) (by omega) with h1 | ⟨h1, h2, h3⟩ | ⟨s, hs, rfl⟩
    · exact br_t h1 (br_t rfl (br_f n1 (br_f n2 (br_t h1 ⟨rfl, ov_in H⟩))))
    · exact br_f h1 (br_t h2 (br_t rfl (br_f n1 (br_f n2 (br_f h1 (br_f h3 ⟨rfl, ov_in H⟩))))))
    · have n3 : ¬ nI s < 0 := nI_pos (by omega)
      have n4 : ¬ nI sc ≤ nI s := nI_ge hs (by omega)
      have n5 : nI s < nI sc := nI_lt hs (by omega)
      have hsg := ov_gs G hp
      have vp : vp_in (nI p) 12 := vp_in_nI (by omega) (by omega)
      have vs : vp_in (nI s) 8 := vp_in_nI (by omega) (by omega)
      have ec : (nI p).toNatClampNeg = p := nI_clamp (by omega)
      have es : (nI s).toNatClampNeg = s := nI_clamp (by omega)
      have eg : ov_f sg (nI p).toNatClampNeg = nI (sg p) := ov_at (by omega)
      have egc : (nI (sg p)).toNatClampNeg = sg p := nI_clamp (by omega)
      have vg : vp_in (ov_f sg (nI p).toNatClampNeg) 8 := by rw [eg]; exact vp_in_nI (by omega) (by omega)
      refine br_f n3 (br_f n4 (br_f (by decide) ⟨vp, vg, vp, vg, nm_r (e' := ov_f (ov_rst sg po nc p)) ?_ ⟨vs, vp, vs, nm_r (e' := ov_f (ov_sz (ov_up sg p s) po nc)) ?_ ⟨vp, nm_r (e' := ov_f (ov_up sg p s)) (by rw [ec, ov_f_up]) (br_f n1 (br_f n2 (br_f n3 (br_t n5 ⟨vp, nm_r (e' := ov_f (ov_up sg p s)) (by rw [ec, ov_f_up]) ⟨rfl, ?_⟩⟩))))⟩⟩⟩))
      · rw [eg, egc, ec]; exact ov_size1 p
      · rw [es, ec]; exact ov_size2 p s
      · refine ov_in0 ⟨H.1.1, ⟨G.1, G.2.1, fun q hq => ?_, G.2.2.2⟩, H.1.2.2⟩
        by_cases e : q = p
        · rw [e, ov_ups]; exact hs
        · rw [ov_upn e]; exact ov_gs G hq
end
end
section
/-! emit -/
def ov_lo (o : Nat) : Int32 := if o = 1 then -128 else 0
def ov_hi (o : Nat) : Int32 := if o = 1 ∨ o = 7 then 127 else if o = 8 then 11 else 3
def ov_ua (o : Nat) : Int32 := if 1 ≤ o ∧ o ≤ 7 then 1 else 0
def ov_ub (o : Nat) : Int32 := if 1 ≤ o ∧ o ≤ 8 then 1 else 0
def ov_GD (o : Nat) (v2 v3 : Int32) : Prop := (1 ≤ o ∧ o ≤ 7 → ¬ v2 < 0 ∧ v2 ≤ 3) ∧ (1 ≤ o ∧ o ≤ 8 → ¬ v3 < ov_lo o ∧ v3 ≤ ov_hi o)
theorem ov_ua1 {o : Nat} (h : 1 ≤ o ∧ o ≤ 7) : ¬ ov_ua o = 0 := by unfold ov_ua; rw [if_pos h]; decide
theorem ov_ua0 {o : Nat} (h : ¬ (1 ≤ o ∧ o ≤ 7)) : ov_ua o = 0 := if_neg h
theorem ov_ub1 {o : Nat} (h : 1 ≤ o ∧ o ≤ 8) : ¬ ov_ub o = 0 := by unfold ov_ub; rw [if_pos h]; decide
theorem ov_ub0 {o : Nat} (h : ¬ (1 ≤ o ∧ o ≤ 8)) : ov_ub o = 0 := if_neg h
theorem ov_o10 {o : Nat} {P : Nat → Prop} (ho : o < 10) (h0 : P 0) (h1 : P 1) (h2 : P 2) (h3 : P 3) (h4 : P 4) (h5 : P 5) (h6 : P 6) (h7 : P 7) (h8 : P 8) (h9 : P 9) : P o := by
  rcases (by omega : o = 0 ∨ o = 1 ∨ o = 2 ∨ o = 3 ∨ o = 4 ∨ o = 5 ∨ o = 6 ∨ o = 7 ∨ o = 8 ∨ o = 9) with e | e | e | e | e | e | e | e | e | e <;> subst e <;> assumption
section
variable {f_maxSegments f_maxProcedures f_room f_maxDepth f_segmentCount f_procedureCount f_codeCount f_linked f_resident : Int32} {a_parentOf a_pathMask a_sizeOf a_baseOf a_cursor a_segmentOf a_first a_lengthOf a_code a_address a_stubOf a_stubCallee a_image a_cell a_owner a_state a_current a_pc a_stepCount a_traceOf a_height a_values a_stack : Nat → Int32} {post : Int32 → Prop} {v lo hi v2 v3 : Int32}
theorem ov_xins (h1 : ¬ v < lo ∧ v ≤ hi → post 1) (h0 : ¬ (¬ v < lo ∧ v ≤ hi) → post 0) : wpX_inside post (f_maxSegments, f_maxProcedures, f_room, f_maxDepth, f_segmentCount, f_procedureCount, f_codeCount, f_linked, f_resident, a_parentOf, a_pathMask, a_sizeOf, a_baseOf, a_cursor, a_segmentOf, a_first, a_lengthOf, a_code, a_address, a_stubOf, a_stubCallee, a_image, a_cell, a_owner, a_state, a_current, a_pc, a_stepCount, a_traceOf, a_height, a_values, a_stack) v lo hi := by
  by_cases e1 : v < lo
  · exact br_t e1 (h0 (fun z => z.1 e1))
  · by_cases e2 : hi < v
    · exact br_f e1 (br_t e2 (h0 (fun z => Int32.not_le.mpr e2 z.2)))
    · exact br_f e1 (br_f e2 (h1 ⟨e1, Int32.not_lt.mp e2⟩))
theorem ov_b01 : narrow .boolean (.int (0 : Int32)) = .int (0 : Int32) := rfl
theorem ov_b11 : narrow .boolean (.int (1 : Int32)) = .int (1 : Int32) := rfl
theorem ov_xfa {o : Nat} (ho : o = 0 ∨ o = 9) (hg : post 1) : wpX_fits post (f_maxSegments, f_maxProcedures, f_room, f_maxDepth, f_segmentCount, f_procedureCount, f_codeCount, f_linked, f_resident, a_parentOf, a_pathMask, a_sizeOf, a_baseOf, a_cursor, a_segmentOf, a_first, a_lengthOf, a_code, a_address, a_stubOf, a_stubCallee, a_image, a_cell, a_owner, a_state, a_current, a_pc, a_stepCount, a_traceOf, a_height, a_values, a_stack) (nI o) v2 v3 := by
  rcases ho with e | e
  · subst e; exact br_f (by decide) (br_t (by decide) (br_t rfl hg))
  · subst e; exact br_f (by decide) (br_t (by decide) (br_f (by decide) (br_t rfl hg)))
theorem ov_xfb (h1 : ¬ v3 < 0 ∧ v3 ≤ 11 → post 1) (h0 : ¬ (¬ v3 < 0 ∧ v3 ≤ 11) → post 0) : wpX_fits post (f_maxSegments, f_maxProcedures, f_room, f_maxDepth, f_segmentCount, f_procedureCount, f_codeCount, f_linked, f_resident, a_parentOf, a_pathMask, a_sizeOf, a_baseOf, a_cursor, a_segmentOf, a_first, a_lengthOf, a_code, a_address, a_stubOf, a_stubCallee, a_image, a_cell, a_owner, a_state, a_current, a_pc, a_stepCount, a_traceOf, a_height, a_values, a_stack) (nI 8) v2 v3 :=
  br_f (by decide) (br_t (by decide) (br_f (by decide) (br_f (by decide) (br_t rfl (ov_xins (fun z => ⟨ov_b11, h1 z⟩) (fun z => ⟨ov_b01, h0 z⟩))))))
theorem ov_xfc {o : Nat} (h1' : 1 ≤ o) (h7' : o ≤ 7) (h1 : (¬ v2 < 0 ∧ v2 ≤ 3) → (¬ v3 < ov_lo o ∧ v3 ≤ ov_hi o) → post 1) (h0 : ¬ ((¬ v2 < 0 ∧ v2 ≤ 3) ∧ (¬ v3 < ov_lo o ∧ v3 ≤ ov_hi o)) → post 0) : wpX_fits post (f_maxSegments, f_maxProcedures, f_room, f_maxDepth, f_segmentCount, f_procedureCount, f_codeCount, f_linked, f_resident, a_parentOf, a_pathMask, a_sizeOf, a_baseOf, a_cursor, a_segmentOf, a_first, a_lengthOf, a_code, a_address, a_stubOf, a_stubCallee, a_image, a_cell, a_owner, a_state, a_current, a_pc, a_stepCount, a_traceOf, a_height, a_values, a_stack) (nI o) v2 v3 := by
  have n : ∀ a, a < 100 → a ≠ o → ¬ nI o = nI a := fun a ha hne z => hne ((nI_eq (by omega) (by omega)).mp z).symm
  refine br_f (nI_pos (by omega)) (br_t (nI_le (b := 9) (by omega) (by omega)) (br_f (n 0 (by omega) (by omega)) (br_f (n 9 (by omega) (by omega)) (br_f (n 8 (by omega) (by omega)) (ov_xins (fun z2 => br_f (by decide) ?_) (fun z2 => br_t rfl (h0 (fun z => z2 z.1))))))))
  by_cases e1 : o = 1
  · subst e1
    exact br_t rfl (ov_xins (fun z => ⟨ov_b11, h1 z2 z⟩) (fun z => ⟨ov_b01, h0 (fun y => z y.2)⟩))
  · refine br_f (n 1 (by omega) (by omega)) ?_
    have el : ov_lo o = 0 := if_neg e1
    rw [el] at h1 h0
    by_cases e7 : o = 7
    · subst e7
      exact br_t rfl (ov_xins (fun z => ⟨ov_b11, h1 z2 z⟩) (fun z => ⟨ov_b01, h0 (fun y => z y.2)⟩))
    · have eh : ov_hi o = 3 := by
        unfold ov_hi
        rw [if_neg (by omega), if_neg (by omega)]
      rw [eh] at h1 h0
      exact br_f (n 7 (by omega) (by omega)) (ov_xins (fun z => ⟨ov_b11, h1 z2 z⟩) (fun z => ⟨ov_b01, h0 (fun y => z y.2)⟩))
theorem ov_xfits {o : Nat} (ho : o < 10) (h1 : ov_GD o v2 v3 → post 1) (h0 : ¬ ov_GD o v2 v3 → post 0) : wpX_fits post (f_maxSegments, f_maxProcedures, f_room, f_maxDepth, f_segmentCount, f_procedureCount, f_codeCount, f_linked, f_resident, a_parentOf, a_pathMask, a_sizeOf, a_baseOf, a_cursor, a_segmentOf, a_first, a_lengthOf, a_code, a_address, a_stubOf, a_stubCallee, a_image, a_cell, a_owner, a_state, a_current, a_pc, a_stepCount, a_traceOf, a_height, a_values, a_stack) (nI o) v2 v3 := by
  by_cases e : o = 0 ∨ o = 9
  · exact ov_xfa e (h1 ⟨fun z => by omega, fun z => by omega⟩)
  · by_cases e8 : o = 8
    · subst e8
      exact ov_xfb (fun z => h1 ⟨fun y => by omega, fun _ => z⟩) (fun z => h0 (fun y => z (y.2 (by omega))))
    · exact ov_xfc (by omega) (by omega) (fun z2 z3 => h1 ⟨fun _ => z2, fun _ => z3⟩) (fun z => h0 (fun y => z ⟨y.1 (by omega), y.2 (by omega)⟩))
theorem ov_sb : ∀ c, c < 256 → ((nI c - 128) &&& 255).toInt8.toInt32 = nI c - 128 ∧ ((nI c - 128) &&& 255) = nI ((nI c - 128) &&& 255).toNatClampNeg ∧ ((nI c - 128) &&& 255).toNatClampNeg < 256 := by decide +kernel
theorem ov_sbr (h1 : ¬ v < -128) (h2 : v ≤ 127) : ∃ b, b < 256 ∧ v = (nI b).toInt8.toInt32 ∧ v &&& 255 = nI b := by
  rw [Int32.lt_iff_toInt_lt, show (-128 : Int32).toInt = -128 from by decide] at h1
  rw [Int32.le_iff_toInt_le, show (127 : Int32).toInt = 127 from by decide] at h2
  have e : v = nI (v.toInt + 128).toNat - 128 := by
    apply Int32.toInt_inj.mp
    have e2 : (nI (v.toInt + 128).toNat - nI 128).toInt = ((v.toInt + 128).toNat : Int) - (128 : Nat) := pk_sub_toInt (by omega) (by omega)
    have e3 : (nI (v.toInt + 128).toNat - 128).toInt = ((v.toInt + 128).toNat : Int) - (128 : Nat) := e2
    rw [e3]
    omega
  obtain ⟨q1, q2, q3⟩ := ov_sb (v.toInt + 128).toNat (by omega)
  rw [← e] at q1 q2 q3
  exact ⟨_, q3, by rw [← q2]; exact q1.symm, q2⟩
theorem ov_rn {n : Nat} (h1 : ¬ v < 0) (h2 : v ≤ nI n) (hn : n < 2 ^ 31) : ∃ j, j ≤ n ∧ v = nI j := nI_of2 (nI_toInt hn) h1 h2
/-- a good instruction: its operands as naturals, and its word -/
theorem ov_good {o : Nat} (ho : o < 10) (g : ov_GD o v2 v3) : ∃ a b, ov_OK o a b ∧ (if ov_ua o = 0 then 0 else v2) = nI a ∧ (o = 1 → (if ov_ub o = 0 then 0 else v3) = (nI b).toInt8.toInt32) ∧ (o ≠ 1 → (if ov_ub o = 0 then 0 else v3) = nI b) ∧ (post (nI (o * 65536 + a * 256 + b)) → wpX_encode post (f_maxSegments, f_maxProcedures, f_room, f_maxDepth, f_segmentCount, f_procedureCount, f_codeCount, f_linked, f_resident, a_parentOf, a_pathMask, a_sizeOf, a_baseOf, a_cursor, a_segmentOf, a_first, a_lengthOf, a_code, a_address, a_stubOf, a_stubCallee, a_image, a_cell, a_owner, a_state, a_current, a_pc, a_stepCount, a_traceOf, a_height, a_values, a_stack) (nI o) v2 v3) := by
  have n : ∀ a, a < 100 → a ≠ o → ¬ nI o = nI a := fun a ha hne z => hne ((nI_eq (by omega) (by omega)).mp z).symm
  have e65 : nI o * 65536 = nI (o * 65536) := by rw [← pk_mul]; rfl
  by_cases e : o = 0 ∨ o = 9
  · refine ⟨0, 0, ⟨by omega, by omega, by omega, fun _ => ⟨rfl, rfl⟩, fun z => by omega, fun _ z => by omega, fun z => by omega⟩, ?_, fun z => by omega, fun _ => ?_, fun h => ?_⟩
    · rw [if_pos (ov_ua0 (by omega))]; rfl
    · rw [if_pos (ov_ub0 (by omega))]; rfl
    · have h' : post (nI o * 65536) := by
        rw [e65]
        have e3 : o * 65536 + 0 * 256 + 0 = o * 65536 := by omega
        rw [e3] at h; exact h
      rcases e with e | e
      · subst e; exact br_t rfl h'
      · subst e; exact br_f (by decide) (br_t rfl h')
  · by_cases e8 : o = 8
    · subst e8
      obtain ⟨z1, z2⟩ := g.2 (by omega)
      obtain ⟨b, hb, rfl⟩ := ov_rn (n := 11) z1 z2 (by omega)
      refine ⟨0, b, ⟨by omega, by omega, by omega, fun z => by omega, fun _ => ⟨rfl, hb⟩, fun _ z => by omega, fun z => by omega⟩, ?_, fun z => by omega, fun _ => ?_, fun h => ?_⟩
      · rw [if_pos (ov_ua0 (by omega))]; rfl
      · rw [if_neg (ov_ub1 (by omega))]
      · refine br_f (by decide) (br_f (by decide) (br_t rfl ?_))
        rw [e65, nI_add]
        exact h
    · obtain ⟨y1, y2⟩ := g.1 (by omega)
      obtain ⟨z1, z2⟩ := g.2 (by omega)
      obtain ⟨a, ha, rfl⟩ := ov_rn (n := 3) y1 y2 (by omega)
      have enc : ∀ b, v3 &&& 255 = nI b → post (nI (o * 65536 + a * 256 + b)) → wpX_encode post (f_maxSegments, f_maxProcedures, f_room, f_maxDepth, f_segmentCount, f_procedureCount, f_codeCount, f_linked, f_resident, a_parentOf, a_pathMask, a_sizeOf, a_baseOf, a_cursor, a_segmentOf, a_first, a_lengthOf, a_code, a_address, a_stubOf, a_stubCallee, a_image, a_cell, a_owner, a_state, a_current, a_pc, a_stepCount, a_traceOf, a_height, a_values, a_stack) (nI o) (nI a) v3 := by
        intro b hb h
        refine br_f (n 0 (by omega) (by omega)) (br_f (n 9 (by omega) (by omega)) (br_f (n 8 (by omega) (by omega)) ?_))
        rw [hb, ov_src]
        exact h
      have ea : (if ov_ua o = 0 then 0 else nI a) = nI a := by
        rw [if_neg (ov_ua1 (by omega))]
      have eb : (if ov_ub o = 0 then 0 else v3) = v3 := by
        rw [if_neg (ov_ub1 (by omega))]
      rw [eb]
      by_cases e1 : o = 1
      · have z1' : ¬ v3 < -128 := by
          rw [e1] at z1; exact z1
        have z2' : v3 ≤ 127 := by
          rw [e1] at z2; exact z2
        obtain ⟨b, hb, q1, q2⟩ := ov_sbr z1' z2'
        exact ⟨a, b, ⟨by omega, ha, hb, fun z => by omega, fun z => by omega, fun z => by omega, fun z => by omega⟩, ea, fun _ => q1, fun z => absurd e1 z, enc b q2⟩
      · have z1' : ¬ v3 < 0 := by
          rw [show ov_lo o = 0 from if_neg e1] at z1; exact z1
        have lo8 : ∀ b, b < 256 → nI b &&& 255 = nI b := fun b hb => by rw [ov_w0 (by omega), Nat.mod_eq_of_lt hb]
        by_cases e7 : o = 7
        · have z2' : v3 ≤ nI 127 := by
            rw [e7] at z2; exact z2
          obtain ⟨b, hb, rfl⟩ := ov_rn (n := 127) z1' z2' (by omega)
          exact ⟨a, b, ⟨by omega, ha, by omega, fun z => by omega, fun z => by omega, fun z => by omega, fun _ => hb⟩, ea, fun z => absurd z e1, fun _ => rfl, enc b (lo8 b (by omega))⟩
        · have z2' : v3 ≤ nI 3 := by
            have eh : ov_hi o = nI 3 := by
              unfold ov_hi
              rw [if_neg (by omega), if_neg (by omega)]; rfl
            rw [eh] at z2; exact z2
          obtain ⟨b, hb, rfl⟩ := ov_rn (n := 3) z1' z2' (by omega)
          exact ⟨a, b, ⟨by omega, ha, by omega, fun z => by omega, fun z => by omega, fun _ _ => hb, fun z => by omega⟩, ea, fun z => absurd z e1, fun _ => rfl, enc b (lo8 b (by omega))⟩
end
section
variable {f_maxSegments f_maxProcedures f_maxMemory f_maxDepth f_segs f_procs f_count f_linked : Int32} {a_parent a_segOf a_procOf a_ops a_as a_bs a_cells a_stat a_pos a_stepCount a_traces a_held a_stack : Nat → Int32} {sc np nc : Nat} {pa sg po op aa bn : Nat → Nat} {post : Int32 → SY → Prop} {v2 v3 : Int32}
theorem ov_yem112 (hn : ¬ f_procs = 0) (hc : f_count < 128) {o : Nat} (ho : o < 10) (h : wY_emit_112 post (nI o) v2 v3 (ov_ua o) (ov_ub o) (ov_lo o) (ov_hi o) f_maxSegments f_maxProcedures f_maxMemory f_maxDepth f_segs f_procs f_count f_linked a_parent a_segOf a_procOf a_ops a_as a_bs a_cells a_stat a_pos a_stepCount a_traces a_held a_stack) : wpY_emit post (f_maxSegments, f_maxProcedures, f_maxMemory, f_maxDepth, f_segs, f_procs, f_count, f_linked, a_parent, a_segOf, a_procOf, a_ops, a_as, a_bs, a_cells, a_stat, a_pos, a_stepCount, a_traces, a_held, a_stack) (nI o) v2 v3 := by
  rcases (by omega : o = 0 ∨ o = 1 ∨ o = 2 ∨ o = 3 ∨ o = 4 ∨ o = 5 ∨ o = 6 ∨ o = 7 ∨ o = 8 ∨ o = 9) with e | e | e | e | e | e | e | e | e | e <;> subst e
  · exact br_f hn (br_t hc (br_f (by decide) (br_t (by decide) (br_t (by decide) (br_t (by decide) (br_f (by decide) (br_f (by decide) (br_f (by decide) (br_f (by decide) h)))))))))
  · exact br_f hn (br_t hc (br_f (by decide) (br_t (by decide) (br_f (by decide) (br_f (by decide) (br_f (by decide) (br_f (by decide) (br_t (by decide) (br_t (by decide) h)))))))))
  · exact br_f hn (br_t hc (br_f (by decide) (br_t (by decide) (br_f (by decide) (br_f (by decide) (br_f (by decide) (br_f (by decide) (br_f (by decide) (br_f (by decide) (br_f (by decide) (br_f (by decide) h)))))))))))
  · exact br_f hn (br_t hc (br_f (by decide) (br_t (by decide) (br_f (by decide) (br_f (by decide) (br_f (by decide) (br_f (by decide) (br_f (by decide) (br_f (by decide) (br_f (by decide) (br_f (by decide) h)))))))))))
  · exact br_f hn (br_t hc (br_f (by decide) (br_t (by decide) (br_f (by decide) (br_f (by decide) (br_f (by decide) (br_f (by decide) (br_f (by decide) (br_f (by decide) (br_f (by decide) (br_f (by decide) h)))))))))))
  · exact br_f hn (br_t hc (br_f (by decide) (br_t (by decide) (br_f (by decide) (br_f (by decide) (br_f (by decide) (br_f (by decide) (br_f (by decide) (br_f (by decide) (br_f (by decide) (br_f (by decide) h)))))))))))
  · exact br_f hn (br_t hc (br_f (by decide) (br_t (by decide) (br_f (by decide) (br_f (by decide) (br_f (by decide) (br_f (by decide) (br_f (by decide) (br_f (by decide) (br_f (by decide) (br_f (by decide) h)))))))))))
  · exact br_f hn (br_t hc (br_f (by decide) (br_t (by decide) (br_f (by decide) (br_f (by decide) (br_f (by decide) (br_f (by decide) (br_f (by decide) (br_f (by decide) (br_t (by decide) h))))))))))
  · exact br_f hn (br_t hc (br_f (by decide) (br_t (by decide) (br_f (by decide) (br_t (by decide) (br_f (by decide) (br_f (by decide) (br_f (by decide) (br_f (by decide) (br_f (by decide) (br_t (by decide) h)))))))))))
  · exact br_f hn (br_t hc (br_f (by decide) (br_t (by decide) (br_f (by decide) (br_t (by decide) (br_f (by decide) (br_t (by decide) (br_f (by decide) (br_f (by decide) (br_f (by decide) (br_f (by decide) h)))))))))))
theorem ov_yem151 {o : Nat} (hg : ov_GD o v2 v3 → wY_emit_151 post (nI o) v2 v3 (ov_ua o) (ov_ub o) f_maxSegments f_maxProcedures f_maxMemory f_maxDepth f_segs f_procs f_count f_linked a_parent a_segOf a_procOf a_ops a_as a_bs a_cells a_stat a_pos a_stepCount a_traces a_held a_stack) (hb : ¬ ov_GD o v2 v3 → post (-3) (f_maxSegments, f_maxProcedures, f_maxMemory, f_maxDepth, f_segs, f_procs, f_count, f_linked, a_parent, a_segOf, a_procOf, a_ops, a_as, a_bs, a_cells, a_stat, a_pos, a_stepCount, a_traces, a_held, a_stack)) : wY_emit_112 post (nI o) v2 v3 (ov_ua o) (ov_ub o) (ov_lo o) (ov_hi o) f_maxSegments f_maxProcedures f_maxMemory f_maxDepth f_segs f_procs f_count f_linked a_parent a_segOf a_procOf a_ops a_as a_bs a_cells a_stat a_pos a_stepCount a_traces a_held a_stack := by
  have s131 : (1 ≤ o ∧ o ≤ 7 → ¬ v2 < 0 ∧ v2 ≤ 3) → wY_emit_131 post (nI o) v2 v3 (ov_ua o) (ov_ub o) (ov_lo o) (ov_hi o) f_maxSegments f_maxProcedures f_maxMemory f_maxDepth f_segs f_procs f_count f_linked a_parent a_segOf a_procOf a_ops a_as a_bs a_cells a_stat a_pos a_stepCount a_traces a_held a_stack := by
    intro g1
    by_cases e : 1 ≤ o ∧ o ≤ 8
    · have eu : ¬ ov_ub o = 0 := by
        unfold ov_ub; rw [if_pos e]; decide
      refine br_f eu ?_
      by_cases z1 : v3 < ov_lo o
      · exact br_t z1 (hb (fun g => (g.2 e).1 z1))
      · by_cases z2 : v3 ≤ ov_hi o
        · exact br_f z1 (br_t z2 (hg ⟨g1, fun _ => ⟨z1, z2⟩⟩))
        · exact br_f z1 (br_f z2 (hb (fun g => z2 (g.2 e).2)))
    · exact br_t (if_neg e) (hg ⟨g1, fun z => absurd z e⟩)
  by_cases e : 1 ≤ o ∧ o ≤ 7
  · have eu : ¬ ov_ua o = 0 := by
      unfold ov_ua; rw [if_pos e]; decide
    refine br_f eu ?_
    by_cases z1 : v2 < 0
    · exact br_t z1 (hb (fun g => (g.1 e).1 z1))
    · by_cases z2 : v2 ≤ 3
      · exact br_f z1 (br_t z2 (s131 (fun _ => ⟨z1, z2⟩)))
      · exact br_f z1 (br_f z2 (hb (fun g => z2 (g.1 e).2)))
  · exact br_t (if_neg e) (s131 (fun z => absurd z e))
theorem ov_lnE {p : Nat} : ov_ln (ov_up po nc p) (nc + 1) = ov_up (ov_ln po nc) p (ov_ln po nc p + 1) := by
  funext t
  have h := ov_cn_up (P := fun k => decide (po k = t)) (P' := fun k => decide (ov_up po nc p k = t)) (n := nc) (fun k hk => by
    show decide (ov_up po nc p k = t) = decide (po k = t)
    rw [ov_upn (by omega)])
  show ov_cn _ (nc + 1) = _
  rw [h]
  show ov_cn _ nc + (if decide (ov_up po nc p nc = t) = true then 1 else 0) = _
  rw [ov_ups]
  by_cases e : p = t
  · subst e
    rw [if_pos (decide_eq_true rfl), ov_ups]; rfl
  · rw [if_neg (fun z => e (of_decide_eq_true z)), ov_upn (fun z => e z.symm)]; rfl
theorem ov_szE {p : Nat} : ov_sz sg (ov_up po nc p) (nc + 1) = ov_up (ov_sz sg po nc) (sg p) (ov_sz sg po nc (sg p) + 1) := by
  funext t
  have h := ov_cn_up (P := fun k => decide (sg (po k) = t)) (P' := fun k => decide (sg (ov_up po nc p k) = t)) (n := nc) (fun k hk => by
    show decide (sg (ov_up po nc p k) = t) = decide (sg (po k) = t)
    rw [ov_upn (by omega)])
  show ov_cn _ (nc + 1) = _
  rw [h]
  show ov_cn _ nc + (if decide (sg (ov_up po nc p nc) = t) = true then 1 else 0) = _
  rw [ov_ups]
  by_cases e : sg p = t
  · subst e
    rw [if_pos (decide_eq_true rfl), ov_ups]; rfl
  · rw [if_neg (fun z => e (of_decide_eq_true z)), ov_upn (fun z => e z.symm)]; rfl
theorem ov_fiE {p t : Nat} (h : t ≤ p) : ov_fi (ov_up po nc p) (nc + 1) t = ov_fi po nc t := by
  have h2 := ov_cn_up (P := fun k => decide (po k < t)) (P' := fun k => decide (ov_up po nc p k < t)) (n := nc) (fun k hk => by
    show decide (ov_up po nc p k < t) = decide (po k < t)
    rw [ov_upn (by omega)])
  show ov_cn _ (nc + 1) = _
  rw [h2]
  show ov_cn _ nc + (if decide (ov_up po nc p nc < t) = true then 1 else 0) = _
  rw [ov_ups, if_neg (fun z => absurd (of_decide_eq_true z) (by omega))]; rfl
theorem ov_gE2 (G : ov_PG sc np nc pa sg po op aa bn) (hn : 0 < np) (hc : nc < 128) {o a b : Nat} (hO : ov_OK o a b) : ov_PG sc np (nc + 1) pa sg (ov_up po nc (np - 1)) (ov_up op nc o) (ov_up aa nc a) (ov_up bn nc b) := by
  refine ⟨⟨G.1.1, G.1.2.1, G.1.2.2.1, by omega⟩, G.2.1, G.2.2.1, ?_, ?_, ?_⟩
  · intro k hk
    by_cases e : k = nc
    · rw [e, ov_ups]; omega
    · rw [ov_upn e]; exact ov_gp G (by omega)
  · intro j k hjk hk
    by_cases e : k = nc
    · rw [e, ov_ups]
      by_cases e2 : j = nc
      · rw [e2, ov_ups]; exact Nat.le_refl _
      · rw [ov_upn e2]
        have := ov_gp G (k := j) (by omega)
        omega
    · rw [ov_upn e, ov_upn (by omega)]
      exact ov_gM G j k hjk (by omega)
  · intro k hk
    by_cases e : k = nc
    · rw [e, ov_ups, ov_ups, ov_ups]; exact hO
    · rw [ov_upn e, ov_upn e, ov_upn e]; exact ov_gO G (by omega)
theorem ov_yemt (G : ov_PG sc np nc pa sg po op aa bn) (hn : 0 < np) (hc : nc < 128) {o a b : Nat} (hO : ov_OK o a b) {x4 x5 bv : Int32} (ha : (if x4 = 0 then 0 else v2) = nI a) (hb : (if x5 = 0 then 0 else v3) = bv)
    (h : post (nI (ov_ln po nc (np - 1))) (f_maxSegments, f_maxProcedures, f_maxMemory, f_maxDepth, nI sc, nI np, nI (nc + 1), 0, ov_f pa, ov_f sg, ov_f (ov_up po nc (np - 1)), ov_f (ov_up op nc o), ov_f (ov_up aa nc a), upd a_bs nc bv, a_cells, a_stat, a_pos, a_stepCount, a_traces, a_held, a_stack)) : wY_emit_151 post (nI o) v2 v3 x4 x5 f_maxSegments f_maxProcedures f_maxMemory f_maxDepth (nI sc) (nI np) (nI nc) f_linked (ov_f pa) (ov_f sg) (ov_f po) (ov_f op) (ov_f aa) a_bs a_cells a_stat a_pos a_stepCount a_traces a_held a_stack := by
  have h12 := ov_g12 G
  have vc : vp_in (nI nc) 128 := vp_in_nI (by omega) (by omega)
  have ec : (nI nc).toNatClampNeg = nc := nI_clamp (by omega)
  have ep : nI np - 1 = nI (np - 1) := ov_sub1 hn
  have G' := ov_gE2 G hn hc hO
  have t213 : ∀ z0, z0 = bv → wY_emit_213 post z0 (nI nc) f_maxSegments f_maxProcedures f_maxMemory f_maxDepth (nI sc) (nI np) (nI nc) f_linked (ov_f pa) (ov_f sg) (ov_f (ov_up po nc (np - 1))) (ov_f (ov_up op nc o)) (ov_f (ov_up aa nc a)) a_bs a_cells a_stat a_pos a_stepCount a_traces a_held a_stack := by
    intro z0 ez
    subst ez
    refine And.intro vc (nm_r (e' := upd a_bs nc z0) (by rw [ec]) (nm_r (nI_1 nc) (ov_ylen G' (p := np - 1) (by omega) ep ?_)))
    have e2 : nI (ov_ln (ov_up po nc (np - 1)) (nc + 1) (np - 1)) - 1 = nI (ov_ln po nc (np - 1)) := by
      rw [ov_lnE, ov_ups]; exact nI_pred _
    rw [e2]
    exact h
  have t194 : ∀ z0, z0 = nI a → wY_emit_194 post v3 x5 z0 (nI nc) f_maxSegments f_maxProcedures f_maxMemory f_maxDepth (nI sc) (nI np) (nI nc) f_linked (ov_f pa) (ov_f sg) (ov_f (ov_up po nc (np - 1))) (ov_f (ov_up op nc o)) (ov_f aa) a_bs a_cells a_stat a_pos a_stepCount a_traces a_held a_stack := by
    intro z0 ez
    subst ez
    refine And.intro vc (nm_r (e' := ov_f (ov_up aa nc a)) (by rw [ec, ov_f_up]) ?_)
    by_cases e : x5 = 0
    · rw [if_pos e] at hb
      exact br_t e (t213 0 hb)
    · rw [if_neg e] at hb
      exact br_f e (t213 v3 hb)
  refine And.intro vc (nm_r (e' := ov_f (ov_up po nc (np - 1))) (by rw [ec, ep, ov_f_up]) ⟨vc, nm_r (e' := ov_f (ov_up op nc o)) (by rw [ec, ov_f_up]) ?_⟩)
  by_cases e : x4 = 0
  · rw [if_pos e] at ha
    exact br_t e (t194 0 ha)
  · rw [if_neg e] at ha
    exact br_f e (t194 v2 ha)
end
section
variable {MS MP RM MD sc np nc : Nat} {fl rs : Int32} {pa sg po op aa bn : Nat → Nat} {par pmk bas cur fir cod adr sto stc img cel own sta cu pcc stp trc hei val stk bb pos : Nat → Int32} {k : Nat}
theorem ov_emit (H : ov_R MS MP RM MD sc np nc fl rs pa sg po op aa bn par pmk bas cur fir cod adr sto stc img cel own sta cu pcc stp trc hei val stk bb pos) (v1 v2 v3 : Int32) : wpX_emit (fun r u' => wpY_emit (fun r' v' => r' = r ∧ i_Rel k u' v') (nI MS, nI MP, nI RM, nI MD, nI sc, nI np, nI nc, fl, ov_f pa, ov_f sg, ov_f po, ov_f op, ov_f aa, bb, val, sta, pos, stp, trc, hei, stk) v1 v2 v3) (nI MS, nI MP, nI RM, nI MD, nI sc, nI np, nI nc, fl, rs, par, pmk, ov_f (ov_sz sg po nc), bas, cur, ov_f sg, fir, ov_f (ov_ln po nc), cod, adr, sto, stc, img, cel, own, sta, cu, pcc, stp, trc, hei, val, stk) v1 v2 v3 := by
  have G := H.1.2.1
  have h8 := ov_g8 G
  have h12 := ov_g12 G
  have h128 := ov_g128 G
  unfold wpX_emit
  by_cases hn : np = 0
  · subst hn
    exact br_t rfl (br_t rfl ⟨rfl, ov_in H⟩)
  · have n0 : ¬ nI np = 0 := nI_ne0 (by omega) (by omega)
    refine br_f n0 ?_
    by_cases hc : nc < 128
    · have l1 : nI nc < 128 := nI_lt (b := 128) hc (by omega)
      refine br_t l1 ?_
      rcases ov_rg v1 (n := 9) (by omega) with h1 | ⟨h1, h2, h3⟩ | ⟨o, ho, rfl⟩
      · exact br_t h1 (br_t rfl (br_f n0 (br_t l1 (br_t h1 ⟨rfl, ov_in H⟩))))
      · exact br_f h1 (br_f h3 (br_t rfl (br_f n0 (br_t l1 (br_f h1 (br_f h3 ⟨rfl, ov_in H⟩))))))
      · refine ov_xfits (by omega) (fun g => br_f (by decide) ?_) (fun g => br_t rfl (ov_yem112 n0 l1 (by omega) (ov_yem151 (fun z => absurd z g) (fun _ => ⟨rfl, ov_in H⟩))))
        obtain ⟨a, b, hO, ea, eb1, eb2, enc⟩ := ov_good (by omega : o < 10) g
        have ep : nI np - 1 = nI (np - 1) := ov_sub1 (by omega)
        have vp : vp_in (nI (np - 1)) 12 := vp_in_nI (by omega) (by omega)
        have vc : vp_in (nI nc) 128 := vp_in_nI (by omega) (by omega)
        have hsg := ov_gs G (p := np - 1) (by omega)
        have ec : (nI nc).toNatClampNeg = nc := nI_clamp (by omega)
        have ecp : (nI (np - 1)).toNatClampNeg = np - 1 := nI_clamp (by omega)
        have eg : ov_f sg (nI (np - 1)).toNatClampNeg = nI (sg (np - 1)) := ov_at (by omega)
        have egc : (nI (sg (np - 1))).toNatClampNeg = sg (np - 1) := nI_clamp (by omega)
        have vg : vp_in (ov_f sg (nI (np - 1)).toNatClampNeg) 8 := by rw [eg]; exact vp_in_nI (by omega) (by omega)
        refine nm_r ep ⟨vp, nm_r (e' := nI (ov_ln po nc (np - 1))) (ov_at (by omega)) (enc ⟨vc, nm_r (e' := upd cod nc (nI (o * 65536 + a * 256 + b))) (by rw [ec]) (nm_r (nI_1 nc) ⟨vp, nm_r (e' := ov_f (ov_ln (ov_up po nc (np - 1)) (nc + 1))) ?_ ⟨vp, vg, vg, nm_r (e' := ov_f (ov_sz sg (ov_up po nc (np - 1)) (nc + 1))) ?_ ?_⟩⟩)⟩)⟩
        · rw [ecp, nI_1, ov_f_up, ov_lnE]
        · rw [eg, egc, ov_szE, ← ov_f_up, ← nI_1]; rfl
        · refine ov_yem112 n0 l1 (by omega) (ov_yem151 (fun _ => ov_yemt G (by omega) hc hO ea rfl ⟨rfl, ?_⟩) (fun z => absurd g z))
          refine ov_in0 ⟨H.1.1, ov_gE2 G (by omega) hc hO, H.1.2.2.1, H.1.2.2.2.1, ?_, ?_, ?_⟩
          · intro p hp
            rw [ov_fiE (by omega)]; exact H.1.2.2.2.2.1 p hp
          · intro k hk
            by_cases e : k = nc
            · rw [e, pk_us, ov_ups, ov_ups, ov_ups]
            · rw [pk_un e, ov_upn e, ov_upn e, ov_upn e]; exact H.1.2.2.2.2.2.1 k (by omega)
          · intro k hk
            by_cases e : k = nc
            · rw [e, pk_us, ov_ups, ov_ups]; exact ⟨eb1, eb2⟩
            · rw [pk_un e, ov_upn e, ov_upn e]; exact H.1.2.2.2.2.2.2 k (by omega)
    · have l1 : ¬ nI nc < 128 := nI_nlt (b := 128) (by omega) (by omega)
      exact br_f l1 (br_f n0 (br_f l1 ⟨rfl, ov_in H⟩))
end
end
section
/-! the reference's link -/
section
variable {f_maxSegments f_maxProcedures f_maxMemory f_maxDepth f_segs f_procs f_count f_linked : Int32} {a_parent a_segOf a_procOf a_ops a_as a_bs a_cells a_stat a_pos a_stepCount a_traces a_held a_stack : Nat → Int32} {sc np nc : Nat} {pa sg po op aa bn : Nat → Nat} {post : Int32 → SY → Prop} {RM : Nat}
theorem ov_ylk238 {x1 : Int32} (h : post x1 (f_maxSegments, f_maxProcedures, f_maxMemory, f_maxDepth, f_segs, f_procs, f_count, f_linked, a_parent, a_segOf, a_procOf, a_ops, a_as, a_bs, a_cells, upd (upd a_stat 0 0) 1 0, upd (upd a_pos 0 0) 1 0, upd (upd a_stepCount 0 0) 1 0, upd (upd a_traces 0 0) 1 0, upd (upd a_held 0 0) 1 0, a_stack)) : wY_link_238 post x1 f_maxSegments f_maxProcedures f_maxMemory f_maxDepth f_segs f_procs f_count f_linked 3 0 a_parent a_segOf a_procOf a_ops a_as a_bs a_cells a_stat a_pos a_stepCount a_traces a_held a_stack := by
  have v0 : vp_in 0 2 := vp_in_nI (n := 0) (by omega) (by omega)
  have v1 : vp_in 1 2 := vp_in_nI (n := 1) (by omega) (by omega)
  refine br_f (by decide) ⟨v0, nm_e ⟨v0, nm_e ⟨v0, nm_e ⟨v0, nm_e ⟨v0, nm_e (nm_r (e' := 1) (by decide) ?_)⟩⟩⟩⟩⟩
  refine br_f (by decide) ⟨v1, nm_e ⟨v1, nm_e ⟨v1, nm_e ⟨v1, nm_e ⟨v1, nm_e (nm_r (e' := 2) (by decide) ?_)⟩⟩⟩⟩⟩
  exact br_t (by decide) h
theorem ov_ylk217 {x1 : Int32} (h : post x1 (f_maxSegments, f_maxProcedures, f_maxMemory, f_maxDepth, f_segs, f_procs, f_count, f_linked, a_parent, a_segOf, a_procOf, a_ops, a_as, a_bs, ov_zr a_cells 0 24, upd (upd a_stat 0 0) 1 0, upd (upd a_pos 0 0) 1 0, upd (upd a_stepCount 0 0) 1 0, upd (upd a_traces 0 0) 1 0, upd (upd a_held 0 0) 1 0, a_stack)) :
    ∀ d i n, i + d = 24 → d < n → wY_link_217 post x1 f_maxSegments f_maxProcedures f_maxMemory f_maxDepth f_segs f_procs f_count f_linked n (nI i) a_parent a_segOf a_procOf a_ops a_as a_bs (ov_zr a_cells 0 i) a_stat a_pos a_stepCount a_traces a_held a_stack := by
  intro d
  induction d with
  | zero =>
    intro i n hi hn
    obtain ⟨n, rfl⟩ : ∃ n', n = n' + 1 := ⟨n - 1, by omega⟩
    have e : i = 24 := by omega
    subst e
    exact br_t (nI_le (a := 24) (by omega) (by omega)) (Exists.intro 3 (ov_ylk238 h))
  | succ d ih =>
    intro i n hi hn
    obtain ⟨n, rfl⟩ : ∃ n', n = n' + 1 := ⟨n - 1, by omega⟩
    refine br_f (nI_ge (b := 24) (by omega) (by omega)) ⟨vp_in_nI (by omega) (by omega), nm_r (e' := ov_zr a_cells 0 (i + 1)) ?_ (nm_r (nI_1 i) (ih (i + 1) n (by omega) (by omega)))⟩
    rw [nI_clamp (by omega), ov_zr_s _ (by omega)]
theorem ov_ylk166 (G : ov_PG sc np nc pa sg po op aa bn) (hRM : RM ≤ 64) (h1 : RM < ov_mx (ov_E pa sg po nc) sc → post (-7) (f_maxSegments, f_maxProcedures, nI RM, f_maxDepth, nI sc, nI np, nI nc, f_linked, ov_f pa, ov_f sg, ov_f po, ov_f op, ov_f aa, a_bs, a_cells, a_stat, a_pos, a_stepCount, a_traces, a_held, a_stack))
    (h0 : ov_mx (ov_E pa sg po nc) sc ≤ RM → post (nI (ov_mx (ov_E pa sg po nc) sc)) (f_maxSegments, f_maxProcedures, nI RM, f_maxDepth, nI sc, nI np, nI nc, 1, ov_f pa, ov_f sg, ov_f po, ov_f op, ov_f aa, a_bs, ov_zr a_cells 0 24, upd (upd a_stat 0 0) 1 0, upd (upd a_pos 0 0) 1 0, upd (upd a_stepCount 0 0) 1 0, upd (upd a_traces 0 0) 1 0, upd (upd a_held 0 0) 1 0, a_stack)) :
    ∀ d j n, j + d = sc → d < n → wY_link_166 post f_maxSegments f_maxProcedures (nI RM) f_maxDepth (nI sc) (nI np) (nI nc) f_linked (ov_f pa) (ov_f sg) (ov_f po) (ov_f op) (ov_f aa) a_bs a_cells a_stat a_pos a_stepCount a_traces a_held a_stack n (nI (ov_mx (ov_E pa sg po nc) j)) (nI j) := by
  have h8 := ov_g8 G
  intro d
  induction d with
  | zero =>
    intro j n hj hn
    obtain ⟨n, rfl⟩ : ∃ n', n = n' + 1 := ⟨n - 1, by omega⟩
    have e : j = sc := by omega
    subst e
    have g2 := ov_gmx G j
    refine br_t (nI_le (by omega) (by omega)) (ek_if (nI_leI (by omega) (by omega)) (fun e => Exists.intro 25 ?_) (fun e => h1 (by omega)))
    have h := ov_ylk217 (h0 e) 24 0 25 (by omega) (by omega)
    rw [ov_zr_0] at h
    exact h
  | succ d ih =>
    intro j n hj hn
    obtain ⟨n, rfl⟩ : ∃ n', n = n' + 1 := ⟨n - 1, by omega⟩
    have hs := ih (j + 1) n (by omega) (by omega)
    have g1 := ov_gE G j
    have g2 := ov_gmx G j
    refine br_f (nI_ge (by omega) (by omega)) (ov_yba G (s := j) (by omega) rfl (ov_ysz G (s := j) (by omega) rfl (nm_r (e' := nI (ov_E pa sg po nc j)) (nI_add _ _) (ek_if (nI_leI (by omega) (by omega)) (fun e => nm_r (nI_1 j) ?_) (fun e => nm_r (nI_1 j) ?_)))))
    · rw [ov_mx_T e] at hs; exact hs
    · rw [ov_mx_F e] at hs; exact hs
theorem ov_ylk121 (G : ov_PG sc np nc pa sg po op aa bn) (B : ov_BB op bn nc a_bs) (h1 : (∃ k, k < nc ∧ ov_BC op bn np k) → post (-6) (f_maxSegments, f_maxProcedures, f_maxMemory, f_maxDepth, nI sc, nI np, nI nc, f_linked, ov_f pa, ov_f sg, ov_f po, ov_f op, ov_f aa, a_bs, a_cells, a_stat, a_pos, a_stepCount, a_traces, a_held, a_stack)) (h0 : (∀ k, k < nc → ¬ ov_BC op bn np k) → ∃ n166 : Nat, wY_link_166 post f_maxSegments f_maxProcedures f_maxMemory f_maxDepth (nI sc) (nI np) (nI nc) f_linked (ov_f pa) (ov_f sg) (ov_f po) (ov_f op) (ov_f aa) a_bs a_cells a_stat a_pos a_stepCount a_traces a_held a_stack n166 0 0) :
    ∀ d j n, j + d = nc → d < n → (∀ k, k < j → ¬ ov_BC op bn np k) → wY_link_121 post f_maxSegments f_maxProcedures f_maxMemory f_maxDepth (nI sc) (nI np) (nI nc) f_linked (ov_f pa) (ov_f sg) (ov_f po) (ov_f op) (ov_f aa) a_bs a_cells a_stat a_pos a_stepCount a_traces a_held a_stack n (nI j) := by
  have h12 := ov_g12 G
  have h128 := ov_g128 G
  intro d
  induction d with
  | zero =>
    intro j n hj hn hi
    obtain ⟨n, rfl⟩ : ∃ n', n = n' + 1 := ⟨n - 1, by omega⟩
    exact br_t (nI_le (by omega) (by omega)) (h0 (fun k hk => hi k (by omega)))
  | succ d ih =>
    intro j n hj hn hi
    obtain ⟨n, rfl⟩ : ∃ n', n = n' + 1 := ⟨n - 1, by omega⟩
    have hj' : j < nc := by omega
    obtain ⟨o1, o2, o3, o4⟩ := ov_gO G hj'
    have vk : vp_in (nI j) 128 := vp_in_nI (by omega) (by omega)
    have nxt : ¬ ov_BC op bn np j → wY_link_121 post f_maxSegments f_maxProcedures f_maxMemory f_maxDepth (nI sc) (nI np) (nI nc) f_linked (ov_f pa) (ov_f sg) (ov_f po) (ov_f op) (ov_f aa) a_bs a_cells a_stat a_pos a_stepCount a_traces a_held a_stack n (nI (j + 1)) := fun hne =>
      ih (j + 1) n (by omega) (by omega) (fun p hp => by
        by_cases e : p = j
        · rw [e]; exact hne
        · exact hi p (by omega))
    refine br_f (nI_ge (by omega) (by omega)) ⟨vk, ek_if (ov_fe (v := 8) (by omega) (by omega) (by omega)) (fun e8 => ⟨vk, ?_⟩) (fun e8 => nm_r (nI_1 j) (nxt (fun z => e8 z.1)))⟩
    have ebb := ov_bb2 G B hj' (by omega)
    exact ek_if (d := bn j < np) (by rw [ebb]; exact nI_ltI (by omega) (by omega)) (fun e => nm_r (nI_1 j) (nxt (fun z => by have := z.2; omega))) (fun e => h1 ⟨j, hj', e8, by omega⟩)
theorem ov_ylk72 (G : ov_PG sc np nc pa sg po op aa bn) (B : ov_BB op bn nc a_bs) (h1 : (∃ k, k < nc ∧ ov_BT po op bn nc k) → post (-5) (f_maxSegments, f_maxProcedures, f_maxMemory, f_maxDepth, nI sc, nI np, nI nc, f_linked, ov_f pa, ov_f sg, ov_f po, ov_f op, ov_f aa, a_bs, a_cells, a_stat, a_pos, a_stepCount, a_traces, a_held, a_stack)) (h0 : (∀ k, k < nc → ¬ ov_BT po op bn nc k) → ∃ n121 : Nat, wY_link_121 post f_maxSegments f_maxProcedures f_maxMemory f_maxDepth (nI sc) (nI np) (nI nc) f_linked (ov_f pa) (ov_f sg) (ov_f po) (ov_f op) (ov_f aa) a_bs a_cells a_stat a_pos a_stepCount a_traces a_held a_stack n121 0) :
    ∀ d j n, j + d = nc → d < n → (∀ k, k < j → ¬ ov_BT po op bn nc k) → wY_link_72 post f_maxSegments f_maxProcedures f_maxMemory f_maxDepth (nI sc) (nI np) (nI nc) f_linked (ov_f pa) (ov_f sg) (ov_f po) (ov_f op) (ov_f aa) a_bs a_cells a_stat a_pos a_stepCount a_traces a_held a_stack n (nI j) := by
  have h12 := ov_g12 G
  have h128 := ov_g128 G
  intro d
  induction d with
  | zero =>
    intro j n hj hn hi
    obtain ⟨n, rfl⟩ : ∃ n', n = n' + 1 := ⟨n - 1, by omega⟩
    exact br_t (nI_le (by omega) (by omega)) (h0 (fun k hk => hi k (by omega)))
  | succ d ih =>
    intro j n hj hn hi
    obtain ⟨n, rfl⟩ : ∃ n', n = n' + 1 := ⟨n - 1, by omega⟩
    have hj' : j < nc := by omega
    have hpo := ov_gp G hj'
    have hln := ov_gln G (po j)
    obtain ⟨o1, o2, o3, o4⟩ := ov_gO G hj'
    have vk : vp_in (nI j) 128 := vp_in_nI (by omega) (by omega)
    have nxt : ¬ ov_BT po op bn nc j → wY_link_72 post f_maxSegments f_maxProcedures f_maxMemory f_maxDepth (nI sc) (nI np) (nI nc) f_linked (ov_f pa) (ov_f sg) (ov_f po) (ov_f op) (ov_f aa) a_bs a_cells a_stat a_pos a_stepCount a_traces a_held a_stack n (nI (j + 1)) := fun hne =>
      ih (j + 1) n (by omega) (by omega) (fun p hp => by
        by_cases e : p = j
        · rw [e]; exact hne
        · exact hi p (by omega))
    refine br_f (nI_ge (by omega) (by omega)) ⟨vk, ek_if (ov_fe (v := 7) (by omega) (by omega) (by omega)) (fun e7 => ⟨vk, vk, ov_ylen G (p := po j) (by omega) (ov_at (by omega)) ?_⟩) (fun e7 => nm_r (nI_1 j) (nxt (fun z => e7 z.1)))⟩
    have ebb := ov_bb2 G B hj' (by omega)
    exact ek_if (d := bn j < ov_ln po nc (po j)) (by rw [ebb]; exact nI_ltI (by omega) (by omega)) (fun e => nm_r (nI_1 j) (nxt (fun z => by have := z.2; omega))) (fun e => h1 ⟨j, hj', e7, by omega⟩)
theorem ov_ylk11 (G : ov_PG sc np nc pa sg po op aa bn) (h1 : (∃ p, p < np ∧ ov_OE po op nc p) → post (-4) (f_maxSegments, f_maxProcedures, f_maxMemory, f_maxDepth, nI sc, nI np, nI nc, f_linked, ov_f pa, ov_f sg, ov_f po, ov_f op, ov_f aa, a_bs, a_cells, a_stat, a_pos, a_stepCount, a_traces, a_held, a_stack)) (h0 : (∀ p, p < np → ¬ ov_OE po op nc p) → ∃ n72 : Nat, wY_link_72 post f_maxSegments f_maxProcedures f_maxMemory f_maxDepth (nI sc) (nI np) (nI nc) f_linked (ov_f pa) (ov_f sg) (ov_f po) (ov_f op) (ov_f aa) a_bs a_cells a_stat a_pos a_stepCount a_traces a_held a_stack n72 0) :
    ∀ d j n, j + d = np → d < n → (∀ p, p < j → ¬ ov_OE po op nc p) → wY_link_11 post f_maxSegments f_maxProcedures f_maxMemory f_maxDepth (nI sc) (nI np) (nI nc) f_linked (ov_f pa) (ov_f sg) (ov_f po) (ov_f op) (ov_f aa) a_bs a_cells a_stat a_pos a_stepCount a_traces a_held a_stack n (nI j) := by
  have h12 := ov_g12 G
  have h128 := ov_g128 G
  intro d
  induction d with
  | zero =>
    intro j n hj hn hi
    obtain ⟨n, rfl⟩ : ∃ n', n = n' + 1 := ⟨n - 1, by omega⟩
    exact br_t (nI_le (by omega) (by omega)) (h0 (fun k hk => hi k (by omega)))
  | succ d ih =>
    intro j n hj hn hi
    obtain ⟨n, rfl⟩ : ∃ n', n = n' + 1 := ⟨n - 1, by omega⟩
    have hj' : j < np := by omega
    have hln := ov_gln G j
    have nxt : ¬ ov_OE po op nc j → wY_link_11 post f_maxSegments f_maxProcedures f_maxMemory f_maxDepth (nI sc) (nI np) (nI nc) f_linked (ov_f pa) (ov_f sg) (ov_f po) (ov_f op) (ov_f aa) a_bs a_cells a_stat a_pos a_stepCount a_traces a_held a_stack n (nI (j + 1)) := fun hne =>
      ih (j + 1) n (by omega) (by omega) (fun p hp => by
        by_cases e : p = j
        · rw [e]; exact hne
        · exact hi p (by omega))
    refine br_f (nI_ge (by omega) (by omega)) (ov_ylen G (p := j) (by omega) rfl (ov_yfind G (p := j) (by omega) rfl (fun i hil e => ?_) (fun hb => br_f (by decide) (h1 ⟨j, hj', Or.inl ?_⟩))))
    · rw [ov_sub1 (by omega)] at e
      have ei : ov_ln po nc j - 1 = i := (nI_eq (by omega) (by omega)).mp e
      obtain ⟨hK, hP⟩ := ov_po_at (ov_gM G) hil
      obtain ⟨o1, o2, o3, o4⟩ := ov_gO G hK
      have vk : vp_in (nI (ov_fi po nc j + i)) 128 := vp_in_nI (by omega) (by omega)
      refine br_t (nI_pos' (by omega)) ⟨vk, ek_if (ov_fe (v := 9) (by omega) (by omega) (by omega)) (fun e9 => nm_r (nI_1 j) (nxt ?_)) (fun e9 => ⟨vk, ek_if (ov_fe (v := 0) (by omega) (by omega) (by omega)) (fun e0 => nm_r (nI_1 j) (nxt ?_)) (fun e0 => h1 ⟨j, hj', Or.inr ?_⟩)⟩)⟩
      · rintro (z | z)
        · omega
        · rw [ei] at z; exact z.1 e9
      · rintro (z | z)
        · omega
        · rw [ei] at z; exact z.2 e0
      · rw [ei]; exact ⟨e9, e0⟩
    · apply Nat.eq_zero_of_not_pos
      intro z
      exact hb (ov_ln po nc j - 1) (by omega) (ov_sub1 (by omega))
theorem ov_ylk (G : ov_PG sc np nc pa sg po op aa bn) (B : ov_BB op bn nc a_bs) (hn : 0 < np) (hRM : RM ≤ 64)
    (a1 : (∃ p, p < np ∧ ov_OE po op nc p) → post (-4) (f_maxSegments, f_maxProcedures, nI RM, f_maxDepth, nI sc, nI np, nI nc, f_linked, ov_f pa, ov_f sg, ov_f po, ov_f op, ov_f aa, a_bs, a_cells, a_stat, a_pos, a_stepCount, a_traces, a_held, a_stack))
    (a2 : (∀ p, p < np → ¬ ov_OE po op nc p) → (∃ k, k < nc ∧ ov_BT po op bn nc k) → post (-5) (f_maxSegments, f_maxProcedures, nI RM, f_maxDepth, nI sc, nI np, nI nc, f_linked, ov_f pa, ov_f sg, ov_f po, ov_f op, ov_f aa, a_bs, a_cells, a_stat, a_pos, a_stepCount, a_traces, a_held, a_stack))
    (a3 : (∀ p, p < np → ¬ ov_OE po op nc p) → (∀ k, k < nc → ¬ ov_BT po op bn nc k) → (∃ k, k < nc ∧ ov_BC op bn np k) → post (-6) (f_maxSegments, f_maxProcedures, nI RM, f_maxDepth, nI sc, nI np, nI nc, f_linked, ov_f pa, ov_f sg, ov_f po, ov_f op, ov_f aa, a_bs, a_cells, a_stat, a_pos, a_stepCount, a_traces, a_held, a_stack))
    (a4 : (∀ p, p < np → ¬ ov_OE po op nc p) → (∀ k, k < nc → ¬ ov_BT po op bn nc k) → (∀ k, k < nc → ¬ ov_BC op bn np k) → RM < ov_mx (ov_E pa sg po nc) sc → post (-7) (f_maxSegments, f_maxProcedures, nI RM, f_maxDepth, nI sc, nI np, nI nc, f_linked, ov_f pa, ov_f sg, ov_f po, ov_f op, ov_f aa, a_bs, a_cells, a_stat, a_pos, a_stepCount, a_traces, a_held, a_stack))
    (a5 : (∀ p, p < np → ¬ ov_OE po op nc p) → (∀ k, k < nc → ¬ ov_BT po op bn nc k) → (∀ k, k < nc → ¬ ov_BC op bn np k) → ov_mx (ov_E pa sg po nc) sc ≤ RM → post (nI (ov_mx (ov_E pa sg po nc) sc)) (f_maxSegments, f_maxProcedures, nI RM, f_maxDepth, nI sc, nI np, nI nc, 1, ov_f pa, ov_f sg, ov_f po, ov_f op, ov_f aa, a_bs, ov_zr a_cells 0 24, upd (upd a_stat 0 0) 1 0, upd (upd a_pos 0 0) 1 0, upd (upd a_stepCount 0 0) 1 0, upd (upd a_traces 0 0) 1 0, upd (upd a_held 0 0) 1 0, a_stack)) :
    wpY_link post (f_maxSegments, f_maxProcedures, nI RM, f_maxDepth, nI sc, nI np, nI nc, f_linked, ov_f pa, ov_f sg, ov_f po, ov_f op, ov_f aa, a_bs, a_cells, a_stat, a_pos, a_stepCount, a_traces, a_held, a_stack) := by
  have h12 := ov_g12 G
  refine br_f (nI_ne0 hn (by omega)) (Exists.intro (np + 1) (ov_ylk11 G a1 (fun c1 => Exists.intro (nc + 1) (ov_ylk72 G B (a2 c1) (fun c2 => Exists.intro (nc + 1) (ov_ylk121 G B (a3 c1 c2) (fun c3 => Exists.intro (sc + 1) (ov_ylk166 G hRM (a4 c1 c2 c3) (a5 c1 c2 c3) sc 0 (sc + 1) (by omega) (by omega))) nc 0 (nc + 1) (by omega) (by omega) ?_)) nc 0 (nc + 1) (by omega) (by omega) ?_)) np 0 (np + 1) (by omega) (by omega) ?_))
  · exact fun k hk => absurd hk (Nat.not_lt_zero _)
  · exact fun k hk => absurd hk (Nat.not_lt_zero _)
  · exact fun k hk => absurd hk (Nat.not_lt_zero _)
end
end
section
/-! link -/
section
variable {MS MP RM MD sc np nc : Nat} {fl rs : Int32} {pa sg po op aa bn : Nat → Nat} {par pmk bas cur fir cod adr sto stc img cel own sta cu pcc stp trc hei val stk bb pos : Nat → Int32} {k : Nat}
theorem ov_u2 {f : Nat → Int32} {v w : Int32} {m : Nat} (hm : m < 2) : (m = 0 ∧ upd (upd f 0 v) 1 w m = v) ∨ (m = 1 ∧ upd (upd f 0 v) 1 w m = w) := by
  rcases (by omega : m = 0 ∨ m = 1) with e | e
  · subst e; exact Or.inl ⟨rfl, rfl⟩
  · subst e; exact Or.inr ⟨rfl, rfl⟩
theorem ov_mc0 (F : ov_WF sc np nc RM pa sg po op bn) {m : Nat} (hm : m < 2) (h : m = 0 → bt rs (sg 0) = true) :
    ov_MC m MD np nc pa sg po rs (upd (upd cu 0 (nI 0)) 1 (nI 0)) (upd (upd pcc 0 (nI (ov_A pa sg po nc 0 0 + 0))) 1 (nI (ov_A pa sg po nc 1 0 + 0))) (upd (upd pos 0 0) 1 0) (upd (upd hei 0 0) 1 0) stk := by
  refine ⟨0, 0, 0, F.1, ov_ln_pos F F.1, ?_, ?_, ?_, ?_, Nat.zero_le _, fun j hj => absurd hj (Nat.not_lt_zero j), h⟩
  · rcases (by omega : m = 0 ∨ m = 1) with e | e <;> subst e <;> rfl
  · rcases (by omega : m = 0 ∨ m = 1) with e | e <;> subst e <;> rfl
  · rcases (by omega : m = 0 ∨ m = 1) with e | e <;> subst e <;> rfl
  · rcases (by omega : m = 0 ∨ m = 1) with e | e <;> subst e <;> rfl
theorem ov_link (H : ov_R MS MP RM MD sc np nc fl rs pa sg po op aa bn par pmk bas cur fir cod adr sto stc img cel own sta cu pcc stp trc hei val stk bb pos) : wpX_link (fun r u' => wpY_link (fun r' v' => r' = r ∧ i_Rel k u' v') (nI MS, nI MP, nI RM, nI MD, nI sc, nI np, nI nc, fl, ov_f pa, ov_f sg, ov_f po, ov_f op, ov_f aa, bb, val, sta, pos, stp, trc, hei, stk)) (nI MS, nI MP, nI RM, nI MD, nI sc, nI np, nI nc, fl, rs, par, pmk, ov_f (ov_sz sg po nc), bas, cur, ov_f sg, fir, ov_f (ov_ln po nc), cod, adr, sto, stc, img, cel, own, sta, cu, pcc, stp, trc, hei, val, stk) := by
  have G := H.1.2.1
  have h12 := ov_g12 G
  have hRM := H.1.1.2.2.1
  have HP := H.1.2.2.1
  have HM := H.1.2.2.2.1
  have HF := H.1.2.2.2.2.1
  have HC := H.1.2.2.2.2.2.1
  have B := H.1.2.2.2.2.2.2
  unfold wpX_link
  by_cases hn : np = 0
  · subst hn
    exact br_t rfl (br_t rfl ⟨rfl, ov_in H⟩)
  · have n0 : ¬ nI np = 0 := nI_ne0 (by omega) (by omega)
    refine br_f n0 (ov_xoe G HF HC (fun hOE => br_f (by decide) ?_) (fun c1 => br_t rfl (ov_xbt G HF HC (fun hBT => br_f (by decide) ?_) (fun c2 => br_t rfl (ov_xbc G HC (fun hBC => br_f (by decide) ?_) (fun c3 => br_t rfl (ov_xps G HP (fun bas' hb => ?_))))))))
    · refine ov_ylk G B (by omega) hRM (fun _ => ⟨rfl, ov_in H⟩) (fun z => ?_) (fun z => ?_) (fun z => ?_) (fun z => ?_) <;> exact absurd hOE (fun ⟨p, q1, q2⟩ => z p q1 q2)
    · refine ov_ylk G B (by omega) hRM (fun ⟨p, q1, q2⟩ => absurd q2 (c1 p q1)) (fun _ _ => ⟨rfl, ov_in H⟩) (fun _ z => ?_) (fun _ z => ?_) (fun _ z => ?_) <;> exact absurd hBT (fun ⟨p, q1, q2⟩ => z p q1 q2)
    · refine ov_ylk G B (by omega) hRM (fun ⟨p, q1, q2⟩ => absurd q2 (c1 p q1)) (fun _ ⟨p, q1, q2⟩ => absurd q2 (c2 p q1)) (fun _ _ _ => ⟨rfl, ov_in H⟩) (fun _ _ z => ?_) (fun _ _ z => ?_) <;> exact absurd hBC (fun ⟨p, q1, q2⟩ => z p q1 q2)
    · have g2 := ov_gmx G sc
      refine ek_if (d := ov_mx (ov_E pa sg po nc) sc ≤ RM) (nI_leI (by omega) (by omega)) (fun hle => ?_) (fun hgt => ?_)
      · have F : ov_WF sc np nc RM pa sg po op bn := ⟨by omega, c1, c2, c3, (ov_mx_iff sc).mp hle⟩
        refine ov_xpp G HF hb (fun cur' adr' HA => ?_)
        refine ov_xns G HF HC HM c3 (fun sto' stc' HO HS => ?_)
        refine ov_xrl G HF HM HA HO HC c3 (fun img' cel' own' HL => ?_)
        refine ov_xst G F hRM HF HM HA (fun k hk => (HL k hk).1) (m := 0) (by omega) rfl ⟨fun s _ z => by rw [b_0] at z; exact absurd z (by decide), fun p _ z => by rw [b_0] at z; exact absurd z (by decide)⟩ (fun k hk => (HL k hk).2) (fun rs1 cel1 own1 r1 r2 r3 r4 => ?_)
        refine ov_xst G F hRM HF HM HA (fun k hk => (HL k hk).1) (m := 1) (by omega) rfl r1 r2 (fun rs2 cel2 own2 q1 q2 q3 q4 => ?_)
        refine ov_ylk G B (by omega) hRM (fun ⟨p, q1, q2⟩ => absurd q2 (c1 p q1)) (fun _ ⟨p, q1, q2⟩ => absurd q2 (c2 p q1)) (fun _ _ ⟨p, q1, q2⟩ => absurd q2 (c3 p q1)) (fun _ _ _ z => by omega) (fun _ _ _ _ => ⟨rfl, ?_⟩)
        have e2 : rs2 = rs1 := q4 (by omega)
        have ez : ov_zr (ov_zr val (0 * 12) (0 * 12 + 12)) (1 * 12) (1 * 12 + 12) = ov_zr val 0 24 := ov_zr_2 val
        rw [ez]
        refine ov_in ⟨H.1, fun _ => ⟨⟨F, hb, HA, HO, HS, fun k hk => (HL k hk).1⟩, q1, q2, fun m hm => ov_mc0 F hm (fun z => ?_)⟩⟩
        rw [e2]; exact r3 rfl
      · refine ov_ylk G B (by omega) hRM (fun ⟨p, q1, q2⟩ => absurd q2 (c1 p q1)) (fun _ ⟨p, q1, q2⟩ => absurd q2 (c2 p q1)) (fun _ _ ⟨p, q1, q2⟩ => absurd q2 (c3 p q1)) (fun _ _ _ _ => ⟨rfl, ov_in ⟨H.1, fun hf => ?_⟩⟩) (fun _ _ _ z => absurd z hgt)
        exact absurd ((ov_mx_iff sc).mpr (H.2 hf).1.1.2.2.2.2) hgt
end
end
section
/-! arithmetic instructions; what a step keeps -/
def ov_cv (n m a b : Nat) (val : Nat → Int32) : Nat → Int32 :=
  if n = 1 then upd val (m * 12 + a) (nI b).toInt8.toInt32
  else if n = 2 then upd val (m * 12 + a) (val (m * 12 + a) + val (m * 12 + b))
  else if n = 3 then upd val (m * 12 + a) (val (m * 12 + a) - val (m * 12 + b))
  else if n = 4 then upd val (m * 12 + a) (val (m * 12 + a) * val (m * 12 + b))
  else if n = 5 then upd val (m * 12 + a) (val (m * 12 + 4 + (val (m * 12 + b) &&& 7).toNatClampNeg))
  else upd val (m * 12 + 4 + (val (m * 12 + b) &&& 7).toNatClampNeg) (val (m * 12 + a))
theorem ov_m124 (m d : Nat) : nI m * 12 + 4 + nI d = nI (m * 12 + 4 + d) := by
  rw [← nI_add, ← nI_add, ← pk_mul]; rfl
theorem ov_and7 (x : Int32) : ∃ d, d < 8 ∧ x &&& 7 = nI d := pk_andE x 3 (by decide)
section
variable {f_maxSegments f_maxProcedures f_room f_maxDepth f_segmentCount f_procedureCount f_codeCount f_linked f_resident : Int32} {a_parentOf a_pathMask a_sizeOf a_baseOf a_cursor a_segmentOf a_first a_lengthOf a_code a_address a_stubOf a_stubCallee a_image a_cell a_owner a_state a_current a_pc a_stepCount a_traceOf a_height a_values a_stack : Nat → Int32} {m n a b : Nat} {post : SX → Prop}
theorem ov_xcmp (hm : m < 2) (ha : a ≤ 3) (h1 : 1 ≤ n) (h6 : n ≤ 6) (hb : b < 256) (hb3 : n ≠ 1 → b ≤ 3) (h : post (f_maxSegments, f_maxProcedures, f_room, f_maxDepth, f_segmentCount, f_procedureCount, f_codeCount, f_linked, f_resident, a_parentOf, a_pathMask, a_sizeOf, a_baseOf, a_cursor, a_segmentOf, a_first, a_lengthOf, a_code, a_address, a_stubOf, a_stubCallee, a_image, a_cell, a_owner, a_state, a_current, a_pc, a_stepCount, a_traceOf, a_height, ov_cv n m a b a_values, a_stack)) : wpX_compute post (f_maxSegments, f_maxProcedures, f_room, f_maxDepth, f_segmentCount, f_procedureCount, f_codeCount, f_linked, f_resident, a_parentOf, a_pathMask, a_sizeOf, a_baseOf, a_cursor, a_segmentOf, a_first, a_lengthOf, a_code, a_address, a_stubOf, a_stubCallee, a_image, a_cell, a_owner, a_state, a_current, a_pc, a_stepCount, a_traceOf, a_height, a_values, a_stack) (nI m) (nI n) (nI a) (nI b) := by
  have va : vp_in (nI (m * 12 + a)) 24 := vp_in_nI (by omega) (by omega)
  have ea : (nI (m * 12 + a)).toNatClampNeg = m * 12 + a := nI_clamp (by omega)
  refine nm_r (ov_m12 m a) ?_
  by_cases e1 : n = 1
  · subst e1
    exact br_t rfl ⟨va, nm_r (by rw [ea]; rfl) h⟩
  · have hb' := hb3 e1
    have vb : vp_in (nI m * 12 + nI b) 24 := by rw [ov_m12]; exact vp_in_nI (by omega) (by omega)
    obtain ⟨d, hd, ed⟩ := ov_and7 (a_values (m * 12 + b))
    have vd : vp_in (nI (m * 12 + 4 + d)) 24 := vp_in_nI (by omega) (by omega)
    have edc : (nI (m * 12 + 4 + d)).toNatClampNeg = m * 12 + 4 + d := nI_clamp (by omega)
    have edd : (a_values (m * 12 + b) &&& 7).toNatClampNeg = d := by rw [ed]; exact nI_clamp (by omega)
    have eD : nI m * 12 + 4 + (a_values (m * 12 + b) &&& 7) = nI (m * 12 + 4 + d) := by rw [ed, ov_m124]
    refine br_f (fun z => e1 ((nI_eq (b := 1) (by omega) (by omega)).mp z)) ⟨vb, nm_r (e' := a_values (m * 12 + b)) (by rw [ov_m12, nI_clamp (by omega)]) (nm_r eD (br_f (nI_nlt (b := 2) (by omega) (by omega)) ?_))⟩
    rcases (by omega : n = 2 ∨ n = 3 ∨ n = 4 ∨ n = 5 ∨ n = 6) with e | e | e | e | e
    · subst e
      exact br_f (by decide) (br_t rfl ⟨va, va, nm_r (by rw [ea]; rfl) h⟩)
    · subst e
      exact br_f (by decide) (br_f (by decide) (br_t rfl ⟨va, va, nm_r (by rw [ea]; rfl) h⟩))
    · subst e
      exact br_f (by decide) (br_f (by decide) (br_f (by decide) (br_t rfl ⟨va, va, nm_r (by rw [ea]; rfl) h⟩)))
    · subst e
      exact br_f (by decide) (br_f (by decide) (br_f (by decide) (br_f (by decide) (br_t rfl ⟨vd, va, nm_r (by rw [ea, edc, ← edd]; rfl) h⟩))))
    · subst e
      exact br_t (by decide) ⟨va, vd, nm_r (by rw [ea, edc, ← edd]; rfl) h⟩
end
section
variable {f_maxSegments f_maxProcedures f_maxMemory f_maxDepth f_segs f_procs f_count f_linked : Int32} {a_parent a_segOf a_procOf a_ops a_as a_bs a_cells a_stat a_pos a_stepCount a_traces a_held a_stack : Nat → Int32} {m n a b d : Nat} {x2 : Int32} {post : SY → Prop}
theorem ov_y446 (hm : m < 2) (h : post (f_maxSegments, f_maxProcedures, f_maxMemory, f_maxDepth, f_segs, f_procs, f_count, f_linked, a_parent, a_segOf, a_procOf, a_ops, a_as, a_bs, a_cells, a_stat, upd a_pos m (x2 + 1), a_stepCount, a_traces, a_held, a_stack)) : wY_step_446 post (nI m) x2 f_maxSegments f_maxProcedures f_maxMemory f_maxDepth f_segs f_procs f_count f_linked a_parent a_segOf a_procOf a_ops a_as a_bs a_cells a_stat a_pos a_stepCount a_traces a_held a_stack :=
  And.intro (vp_in_nI (by omega) (by omega)) (nm_r (by rw [nI_clamp (by omega)]) h)
/-- the reference's arithmetic instructions 2 to 6 -/
theorem ov_y321 (hm : m < 2) (ha : a ≤ 3) (h2 : 2 ≤ n) (h6 : n ≤ 6) (hb : b ≤ 3) (hd : a_cells (m * 12 + b) &&& 7 = nI d) (hd8 : d < 8) (h : post (f_maxSegments, f_maxProcedures, f_maxMemory, f_maxDepth, f_segs, f_procs, f_count, f_linked, a_parent, a_segOf, a_procOf, a_ops, a_as, a_bs, ov_cv n m a b a_cells, a_stat, upd a_pos m (x2 + 1), a_stepCount, a_traces, a_held, a_stack)) :
    wY_step_321 post (nI m) x2 (nI n) (nI (m * 12 + a)) (nI (m * 12 + b)) (nI (m * 12 + 4 + d)) f_maxSegments f_maxProcedures f_maxMemory f_maxDepth f_segs f_procs f_count f_linked a_parent a_segOf a_procOf a_ops a_as a_bs a_cells a_stat a_pos a_stepCount a_traces a_held a_stack := by
  have va : vp_in (nI (m * 12 + a)) 24 := vp_in_nI (by omega) (by omega)
  have vb : vp_in (nI (m * 12 + b)) 24 := vp_in_nI (by omega) (by omega)
  have vd : vp_in (nI (m * 12 + 4 + d)) 24 := vp_in_nI (by omega) (by omega)
  have ea : (nI (m * 12 + a)).toNatClampNeg = m * 12 + a := nI_clamp (by omega)
  have eb : (nI (m * 12 + b)).toNatClampNeg = m * 12 + b := nI_clamp (by omega)
  have edc : (nI (m * 12 + 4 + d)).toNatClampNeg = m * 12 + 4 + d := nI_clamp (by omega)
  have edd : (a_cells (m * 12 + b) &&& 7).toNatClampNeg = d := by rw [hd]; exact nI_clamp (by omega)
  rcases (by omega : n = 2 ∨ n = 3 ∨ n = 4 ∨ n = 5 ∨ n = 6) with e | e | e | e | e
  · subst e
    exact br_t rfl ⟨va, vb, va, nm_r (by rw [ea, eb]; rfl) (br_f (by decide) (br_f (by decide) (br_f (by decide) (br_f (by decide) (ov_y446 hm h)))))⟩
  · subst e
    exact br_f (by decide) (br_t rfl ⟨va, vb, va, nm_r (by rw [ea, eb]; rfl) (br_f (by decide) (br_f (by decide) (br_f (by decide) (ov_y446 hm h))))⟩)
  · subst e
    exact br_f (by decide) (br_f (by decide) (br_t rfl ⟨va, vb, va, nm_r (by rw [ea, eb]; rfl) (br_f (by decide) (br_f (by decide) (ov_y446 hm h)))⟩))
  · subst e
    exact br_f (by decide) (br_f (by decide) (br_f (by decide) (br_t rfl ⟨vd, va, nm_r (by rw [ea, edc, ← edd]; rfl) (br_f (by decide) (ov_y446 hm h))⟩)))
  · subst e
    exact br_f (by decide) (br_f (by decide) (br_f (by decide) (br_f (by decide) (br_t rfl ⟨va, vd, nm_r (by rw [ea, edc, ← edd]; rfl) (ov_y446 hm h)⟩))))
theorem ov_y321s {x6 x7 x8 : Int32} (hm : m < 2) (h : post (f_maxSegments, f_maxProcedures, f_maxMemory, f_maxDepth, f_segs, f_procs, f_count, f_linked, a_parent, a_segOf, a_procOf, a_ops, a_as, a_bs, a_cells, a_stat, upd a_pos m (x2 + 1), a_stepCount, a_traces, a_held, a_stack)) : wY_step_321 post (nI m) x2 (nI 1) x6 x7 x8 f_maxSegments f_maxProcedures f_maxMemory f_maxDepth f_segs f_procs f_count f_linked a_parent a_segOf a_procOf a_ops a_as a_bs a_cells a_stat a_pos a_stepCount a_traces a_held a_stack :=
  br_f (by decide) (br_f (by decide) (br_f (by decide) (br_f (by decide) (br_f (by decide) (ov_y446 hm h)))))
end
section
variable {MS MP RM MD sc np nc : Nat} {fl rs : Int32} {pa sg po op aa bn : Nat → Nat} {par pmk bas cur fir cod adr sto stc img cel own sta cu pcc stp trc hei val stk bb pos : Nat → Int32}
theorem ov_dy (D : ov_DY MD sc np nc pa sg po op aa bn rs cel own cu pcc pos hei stk) (hD : MD ≤ 16) {m : Nat} (hm : m < 2) {rs' : Int32} {cel' own' cu' pcc' pos' hei' stk' : Nat → Int32}
    (h1 : ov_RS rs' cel' own' sc np nc pa sg po op aa bn) (h2 : ov_FL cel' own' pa sg po op aa bn nc) (h3 : m ≠ 0 → rs' = rs)
    (h4 : ∀ n, n ≠ m → cu' n = cu n ∧ pcc' n = pcc n ∧ pos' n = pos n ∧ hei' n = hei n) (h5 : ∀ n j, n ≠ m → j < 16 → stk' (n * 16 + j) = stk (n * 16 + j))
    (h6 : ov_MC m MD np nc pa sg po rs' cu' pcc' pos' hei' stk') : ov_DY MD sc np nc pa sg po op aa bn rs' cel' own' cu' pcc' pos' hei' stk' := by
  refine ⟨h1, h2, fun n hn => ?_⟩
  by_cases e : n = m
  · rw [e]; exact h6
  · obtain ⟨q, o, h, a1, a2, a3, a4, a5, a6, a7, a8, a9⟩ := D.2.2 n hn
    obtain ⟨b1, b2, b3, b4⟩ := h4 n e
    refine ⟨q, o, h, a1, a2, by rw [b1]; exact a3, by rw [b2]; exact a4, by rw [b3]; exact a5, by rw [b4]; exact a6, a7, fun j hj => ?_, fun z => ?_⟩
    · rw [h5 n j e (by omega)]; exact a8 j hj
    · rw [h3 (by omega)]; exact a9 z
theorem ov_nl (F : ov_WF sc np nc RM pa sg po op bn) {q o : Nat} (hq : q < np) (ho : o < ov_ln po nc q) (h9 : op (ov_fi po nc q + o) ≠ 9) (h0 : op (ov_fi po nc q + o) ≠ 0) : o + 1 < ov_ln po nc q := by
  apply Nat.lt_of_not_le
  intro z
  have e : ov_ln po nc q - 1 = o := by omega
  exact F.2.1 q hq (Or.inr (by rw [e]; exact ⟨h9, h0⟩))
/-- the word under the machine's pc -/
theorem ov_cellw (D : ov_DY MD sc np nc pa sg po op aa bn rs cel own cu pcc pos hei stk) (G : ov_PG sc np nc pa sg po op aa bn) {m q o : Nat} (hm : m < 2) (hq : q < np) (ho : o < ov_ln po nc q) (hb : m = 0 → bt rs (sg q) = true) : cel (m * 64 + (ov_A pa sg po nc m q + o)) = nI (ov_W pa sg po op aa bn nc m (ov_fi po nc q + o)) := by
  obtain ⟨hK, hP⟩ := ov_po_at (ov_gM G) ho
  rcases (by omega : m = 0 ∨ m = 1) with e | e
  · subst e
    have := (D.1.2 q hq (hb rfl) o ho).1
    rw [show 0 * 64 + (ov_A pa sg po nc 0 q + o) = ov_A pa sg po nc 0 q + o from by omega]
    exact this
  · subst e
    have := (D.2.1 (ov_fi po nc q + o) hK).1
    rw [ov_A1, show 1 * 64 + (ov_fi po nc q + o) = 64 + (ov_fi po nc q + o) from by omega]
    exact this
/-- the owner of a procedure's first word -/
theorem ov_own0 (D : ov_DY MD sc np nc pa sg po op aa bn rs cel own cu pcc pos hei stk) (G : ov_PG sc np nc pa sg po op aa bn) {m q : Nat} (hm : m < 2) (hq : q < np) (ho : 0 < ov_ln po nc q) (hb : m = 0 → bt rs (sg q) = true) : own (m * 64 + ov_A pa sg po nc m q) = nI q := by
  obtain ⟨hK, hP⟩ := ov_po_at (ov_gM G) ho
  rcases (by omega : m = 0 ∨ m = 1) with e | e
  · subst e
    have := (D.1.2 q hq (hb rfl) 0 ho).2
    rw [show 0 * 64 + ov_A pa sg po nc 0 q = ov_A pa sg po nc 0 q + 0 from by omega]
    exact this
  · subst e
    have := (D.2.1 (ov_fi po nc q + 0) hK).2
    rw [ov_A1, show 1 * 64 + ov_fi po nc q = 64 + (ov_fi po nc q + 0) from by omega, this, hP]
end
end
section
/-! one step of each side -/
theorem ov_m64 (m t : Nat) : nI m * 64 + nI t = nI (m * 64 + t) := by rw [← nI_add, ← pk_mul]; rfl
section
variable {MS MP RM MD sc np nc : Nat} {fl rs : Int32} {pa sg po op aa bn : Nat → Nat} {par pmk bas cur fir cod adr sto stc img cel own sta cu pcc stp trc hei val stk bb pos : Nat → Int32}
theorem ov_xret (L : ov_AL MS MP RM MD sc np nc pa sg po op aa bn par pmk fir cod bb) (S : ov_ST RM sc np nc pa sg po op aa bn bas adr sto stc img) (D : ov_DY MD sc np nc pa sg po op aa bn rs cel own cu pcc pos hei stk) {m h : Nat} (hm : m < 2) (hh : hei m = nI h) (h16 : h ≤ 16)
    (hst : ∀ j, j < h → ∃ a b, a < np ∧ b < ov_ln po nc a ∧ stk (m * 16 + j) = nI (a * 128 + b)) {post : SX → Prop}
    (c0 : h = 0 → post (nI MS, nI MP, nI RM, nI MD, nI sc, nI np, nI nc, fl, rs, par, pmk, ov_f (ov_sz sg po nc), bas, cur, ov_f sg, fir, ov_f (ov_ln po nc), cod, adr, sto, stc, img, cel, own, upd sta m 2, cu, pcc, stp, trc, hei, val, stk))
    (c1 : 0 < h → ∀ a b, a < np → b < ov_ln po nc a → stk (m * 16 + (h - 1)) = nI (a * 128 + b) → ∀ rs' cel' own', ov_RS rs' cel' own' sc np nc pa sg po op aa bn → ov_FL cel' own' pa sg po op aa bn nc → (m = 0 → bt rs' (sg a) = true) → (m ≠ 0 → rs' = rs) →
      post (nI MS, nI MP, nI RM, nI MD, nI sc, nI np, nI nc, fl, rs', par, pmk, ov_f (ov_sz sg po nc), bas, cur, ov_f sg, fir, ov_f (ov_ln po nc), cod, adr, sto, stc, img, cel', own', sta, upd cu m (nI a), upd pcc m (nI (ov_A pa sg po nc m a + b)), stp, trc, upd hei m (nI (h - 1)), val, stk)) :
    wpX_doReturn post (nI MS, nI MP, nI RM, nI MD, nI sc, nI np, nI nc, fl, rs, par, pmk, ov_f (ov_sz sg po nc), bas, cur, ov_f sg, fir, ov_f (ov_ln po nc), cod, adr, sto, stc, img, cel, own, sta, cu, pcc, stp, trc, hei, val, stk) (nI m) := by
  have G := L.2.1
  have h12 := ov_g12 G
  have v2 : vp_in (nI m) 2 := vp_in_nI (by omega) (by omega)
  have ec : (nI m).toNatClampNeg = m := nI_clamp (by omega)
  refine And.intro v2 (ek_if (d := h = 0) (by rw [ec, hh]; exact nI_eq (b := 0) (by omega) (by omega)) (fun e => ⟨v2, nm_r (by rw [ec]) (c0 e)⟩) (fun e => ?_))
  obtain ⟨a, b, ha, hb, hab⟩ := hst (h - 1) (by omega)
  have hln := ov_gln G a
  have e16 : nI m * 16 + upd hei m (nI (h - 1)) (nI m).toNatClampNeg = nI (m * 16 + (h - 1)) := by
    rw [ec, pk_us, ← nI_add, ← pk_mul]; rfl
  refine ⟨v2, v2, nm_r (e' := upd hei m (nI (h - 1))) (by rw [ec, hh, ov_sub1 (by omega)]) ⟨v2, by rw [e16]; exact vp_in_nI (by omega) (by omega), nm_r (e' := nI (a * 128 + b)) (by rw [e16, nI_clamp (by omega), hab]) ?_⟩⟩
  refine ov_xen G S.1 L.1.2.2.1 L.2.2.2.2.1 L.2.2.2.1 S.2.2.1 S.2.2.2.2.2 hm ha rfl ?_ ?_ D.1 D.2.1 (fun rs' cel' own' r1 r2 r3 r4 => c1 (by omega) a b ha hb hab rs' cel' own' r1 r2 r3 r4)
  · rw [ov_w7 (by omega)]; exact congrArg nI (by omega)
  · rw [ov_w127 (by omega)]; exact congrArg nI (by omega)
theorem ov_xcall (L : ov_AL MS MP RM MD sc np nc pa sg po op aa bn par pmk fir cod bb) (S : ov_ST RM sc np nc pa sg po op aa bn bas adr sto stc img) (D : ov_DY MD sc np nc pa sg po op aa bn rs cel own cu pcc pos hei stk) {m q o h c : Nat} (hm : m < 2) (hq : q < np) (a3 : cu m = nI q) (a4 : pcc m = nI (ov_A pa sg po nc m q + o)) (hh : hei m = nI h) (hc : c < np)
    {x3 x5 : Int32} (hx : (x3 = nI 10 ∧ ∃ s, s < 12 ∧ x5 = nI s ∧ stc s = nI c) ∨ (x3 = nI 8 ∧ ∃ t, t < 128 ∧ x5 = nI t ∧ own (m * 64 + t) = nI c)) (h16 : h ≤ 16) {post : SX → Prop}
    (c0 : ¬ h < MD → post (nI MS, nI MP, nI RM, nI MD, nI sc, nI np, nI nc, fl, rs, par, pmk, ov_f (ov_sz sg po nc), bas, cur, ov_f sg, fir, ov_f (ov_ln po nc), cod, adr, sto, stc, img, cel, own, upd sta m 3, cu, pcc, stp, trc, hei, val, stk))
    (c1 : h < MD → ∀ rs' cel' own', ov_RS rs' cel' own' sc np nc pa sg po op aa bn → ov_FL cel' own' pa sg po op aa bn nc → (m = 0 → bt rs' (sg c) = true) → (m ≠ 0 → rs' = rs) →
      post (nI MS, nI MP, nI RM, nI MD, nI sc, nI np, nI nc, fl, rs', par, pmk, ov_f (ov_sz sg po nc), bas, cur, ov_f sg, fir, ov_f (ov_ln po nc), cod, adr, sto, stc, img, cel', own', sta, upd cu m (nI c), upd pcc m (nI (ov_A pa sg po nc m c + 0)), stp, trc, upd hei m (nI (h + 1)), val, upd stk (m * 16 + h) (nI (q * 128 + (o + 1))))) :
    wpX_doCall post (nI MS, nI MP, nI RM, nI MD, nI sc, nI np, nI nc, fl, rs, par, pmk, ov_f (ov_sz sg po nc), bas, cur, ov_f sg, fir, ov_f (ov_ln po nc), cod, adr, sto, stc, img, cel, own, sta, cu, pcc, stp, trc, hei, val, stk) (nI m) x3 x5 := by
  have G := L.2.1
  have hMD := L.1.2.2.2
  have h12 := ov_g12 G
  have v2 : vp_in (nI m) 2 := vp_in_nI (by omega) (by omega)
  have ec : (nI m).toNatClampNeg = m := nI_clamp (by omega)
  have e16 : nI m * 16 + hei (nI m).toNatClampNeg = nI (m * 16 + h) := by
    rw [ec, hh, ← nI_add, ← pk_mul]; rfl
  refine And.intro v2 (ek_if (d := h < MD) (by rw [ec, hh]; exact nI_ltI (by omega) (by omega)) (fun e => ⟨v2, ov_xhere G S.2.2.1 hm hq a3 a4 ?_⟩) (fun e => ⟨v2, nm_r (by rw [ec]) (c0 e)⟩))
  have ent : ∀ z, z = nI c → wX_doCall_80 post (nI m) z (nI MS) (nI MP) (nI RM) (nI MD) (nI sc) (nI np) (nI nc) fl rs par pmk (ov_f (ov_sz sg po nc)) bas cur (ov_f sg) fir (ov_f (ov_ln po nc)) cod adr sto stc img cel own sta cu pcc stp trc (upd hei m (nI (h + 1))) val (upd stk (m * 16 + h) (nI (q * 128 + (o + 1)))) := fun z hz =>
    ov_xen G S.1 L.1.2.2.1 L.2.2.2.2.1 L.2.2.2.1 S.2.2.1 S.2.2.2.2.2 hm hc (o := 0) rfl hz rfl D.1 D.2.1 (fun rs' cel' own' r1 r2 r3 r4 => c1 e rs' cel' own' r1 r2 r3 r4)
  refine ⟨by rw [e16]; exact vp_in_nI (by omega) (by omega), nm_r (e' := upd stk (m * 16 + h) (nI (q * 128 + (o + 1)))) (by rw [e16, nI_clamp (by omega), nI_1, Nat.add_assoc]) ⟨v2, v2, nm_r (e' := upd hei m (nI (h + 1))) (by rw [ec, hh, nI_1]) ?_⟩⟩
  rcases hx with ⟨rfl, s, hs, rfl, hst⟩ | ⟨rfl, t, ht, rfl, hot⟩
  · exact br_t rfl ⟨vp_in_nI (by omega) (by omega), ent _ (by rw [nI_clamp (by omega), hst])⟩
  · have e64 := ov_m64 m t
    exact br_f (by decide) ⟨by rw [e64]; exact vp_in_nI (by omega) (by omega), ent _ (by rw [e64, nI_clamp (by omega), hot])⟩
theorem ov_xstep (L : ov_AL MS MP RM MD sc np nc pa sg po op aa bn par pmk fir cod bb) (S : ov_ST RM sc np nc pa sg po op aa bn bas adr sto stc img) (D : ov_DY MD sc np nc pa sg po op aa bn rs cel own cu pcc pos hei stk) {m q o h : Nat} (hm : m < 2) (a1 : q < np) (a2 : o < ov_ln po nc q) (a3 : cu m = nI q) (a4 : pcc m = nI (ov_A pa sg po nc m q + o)) (a6 : hei m = nI h) (a7 : h ≤ MD)
    (a8 : ∀ j, j < h → ∃ a b, a < np ∧ b < ov_ln po nc a ∧ stk (m * 16 + j) = nI (a * 128 + b)) (a9 : m = 0 → bt rs (sg q) = true) {post : SX → Prop}
    (c0 : op (ov_fi po nc q + o) = 0 → post (nI MS, nI MP, nI RM, nI MD, nI sc, nI np, nI nc, fl, rs, par, pmk, ov_f (ov_sz sg po nc), bas, cur, ov_f sg, fir, ov_f (ov_ln po nc), cod, adr, sto, stc, img, cel, own, upd sta m 1, cu, pcc, upd stp m (stp m + 1), upd trc m (trc m * 31 + nI (q * 128 + o) + 1), hei, val, stk))
    (c9a : op (ov_fi po nc q + o) = 9 → h = 0 → post (nI MS, nI MP, nI RM, nI MD, nI sc, nI np, nI nc, fl, rs, par, pmk, ov_f (ov_sz sg po nc), bas, cur, ov_f sg, fir, ov_f (ov_ln po nc), cod, adr, sto, stc, img, cel, own, upd sta m 2, cu, pcc, upd stp m (stp m + 1), upd trc m (trc m * 31 + nI (q * 128 + o) + 1), hei, val, stk))
    (c9b : op (ov_fi po nc q + o) = 9 → 0 < h → ∀ a b, a < np → b < ov_ln po nc a → stk (m * 16 + (h - 1)) = nI (a * 128 + b) → ∀ rs' cel' own', ov_RS rs' cel' own' sc np nc pa sg po op aa bn → ov_FL cel' own' pa sg po op aa bn nc → (m = 0 → bt rs' (sg a) = true) → (m ≠ 0 → rs' = rs) →
      post (nI MS, nI MP, nI RM, nI MD, nI sc, nI np, nI nc, fl, rs', par, pmk, ov_f (ov_sz sg po nc), bas, cur, ov_f sg, fir, ov_f (ov_ln po nc), cod, adr, sto, stc, img, cel', own', sta, upd cu m (nI a), upd pcc m (nI (ov_A pa sg po nc m a + b)), upd stp m (stp m + 1), upd trc m (trc m * 31 + nI (q * 128 + o) + 1), upd hei m (nI (h - 1)), val, stk))
    (c8a : op (ov_fi po nc q + o) = 8 → ¬ h < MD → post (nI MS, nI MP, nI RM, nI MD, nI sc, nI np, nI nc, fl, rs, par, pmk, ov_f (ov_sz sg po nc), bas, cur, ov_f sg, fir, ov_f (ov_ln po nc), cod, adr, sto, stc, img, cel, own, upd sta m 3, cu, pcc, upd stp m (stp m + 1), upd trc m (trc m * 31 + nI (q * 128 + o) + 1), hei, val, stk))
    (c8b : op (ov_fi po nc q + o) = 8 → h < MD → ∀ rs' cel' own', ov_RS rs' cel' own' sc np nc pa sg po op aa bn → ov_FL cel' own' pa sg po op aa bn nc → (m = 0 → bt rs' (sg (bn (ov_fi po nc q + o))) = true) → (m ≠ 0 → rs' = rs) →
      post (nI MS, nI MP, nI RM, nI MD, nI sc, nI np, nI nc, fl, rs', par, pmk, ov_f (ov_sz sg po nc), bas, cur, ov_f sg, fir, ov_f (ov_ln po nc), cod, adr, sto, stc, img, cel', own', sta, upd cu m (nI (bn (ov_fi po nc q + o))), upd pcc m (nI (ov_A pa sg po nc m (bn (ov_fi po nc q + o)) + 0)), upd stp m (stp m + 1), upd trc m (trc m * 31 + nI (q * 128 + o) + 1), upd hei m (nI (h + 1)), val, upd stk (m * 16 + h) (nI (q * 128 + (o + 1)))))
    (c7a : op (ov_fi po nc q + o) = 7 → val (m * 12 + aa (ov_fi po nc q + o)) = 0 → post (nI MS, nI MP, nI RM, nI MD, nI sc, nI np, nI nc, fl, rs, par, pmk, ov_f (ov_sz sg po nc), bas, cur, ov_f sg, fir, ov_f (ov_ln po nc), cod, adr, sto, stc, img, cel, own, sta, cu, upd pcc m (nI (ov_A pa sg po nc m q + (o + 1))), upd stp m (stp m + 1), upd trc m (trc m * 31 + nI (q * 128 + o) + 1), hei, val, stk))
    (c7b : op (ov_fi po nc q + o) = 7 → ¬ val (m * 12 + aa (ov_fi po nc q + o)) = 0 → post (nI MS, nI MP, nI RM, nI MD, nI sc, nI np, nI nc, fl, rs, par, pmk, ov_f (ov_sz sg po nc), bas, cur, ov_f sg, fir, ov_f (ov_ln po nc), cod, adr, sto, stc, img, cel, own, sta, cu, upd pcc m (nI (ov_A pa sg po nc m q + bn (ov_fi po nc q + o))), upd stp m (stp m + 1), upd trc m (trc m * 31 + nI (q * 128 + o) + 1), hei, val, stk))
    (cc : 1 ≤ op (ov_fi po nc q + o) → op (ov_fi po nc q + o) ≤ 6 → post (nI MS, nI MP, nI RM, nI MD, nI sc, nI np, nI nc, fl, rs, par, pmk, ov_f (ov_sz sg po nc), bas, cur, ov_f sg, fir, ov_f (ov_ln po nc), cod, adr, sto, stc, img, cel, own, sta, cu, upd pcc m (nI (ov_A pa sg po nc m q + (o + 1))), upd stp m (stp m + 1), upd trc m (trc m * 31 + nI (q * 128 + o) + 1), hei, ov_cv (op (ov_fi po nc q + o)) m (aa (ov_fi po nc q + o)) (bn (ov_fi po nc q + o)) val, stk)) :
    wpX_step post (nI MS, nI MP, nI RM, nI MD, nI sc, nI np, nI nc, fl, rs, par, pmk, ov_f (ov_sz sg po nc), bas, cur, ov_f sg, fir, ov_f (ov_ln po nc), cod, adr, sto, stc, img, cel, own, sta, cu, pcc, stp, trc, hei, val, stk) (nI m) := by
  have G := L.2.1
  have F := S.1
  have HA := S.2.2.1
  have hRM := L.1.2.2.1
  have hMD := L.1.2.2.2
  have h12 := ov_g12 G
  have h128 := ov_g128 G
  have v2 : vp_in (nI m) 2 := vp_in_nI (by omega) (by omega)
  have ec : (nI m).toNatClampNeg = m := nI_clamp (by omega)
  obtain ⟨hK, hP⟩ := ov_po_at (ov_gM G) a2
  have hAe := ov_Ae G F hRM hm a1
  have hw := ov_cellw D G hm a1 a2 a9
  have hWl := ov_Wlt G F (m := m) hK
  obtain ⟨o1, o2, o3, o4, o5, o6, o7⟩ := ov_gO G hK
  have e64 : nI m * 64 + pcc (nI m).toNatClampNeg = nI (m * 64 + (ov_A pa sg po nc m q + o)) := by rw [ec, a4, ov_m64]
  have vc : vp_in (nI m * 64 + pcc (nI m).toNatClampNeg) 192 := by rw [e64]; exact vp_in_nI (by omega) (by omega)
  have e3 : cel (nI m * 64 + pcc (nI m).toNatClampNeg).toNatClampNeg = nI (ov_W pa sg po op aa bn nc m (ov_fi po nc q + o)) := by rw [e64, nI_clamp (by omega), hw]
  have e4 := ov_w16 (w := ov_W pa sg po op aa bn nc m (ov_fi po nc q + o)) (by omega)
  have e5 := ov_w8 (w := ov_W pa sg po op aa bn nc m (ov_fi po nc q + o)) (by omega)
  have e6 := ov_w0 (w := ov_W pa sg po op aa bn nc m (ov_fi po nc q + o)) (by omega)
  by_cases k7 : op (ov_fi po nc q + o) = 7
  · have hW := ov_W7 (pa := pa) (sg := sg) (po := po) (aa := aa) (bn := bn) (nc := nc) (m := m) k7
    rw [hP] at hW
    have hbt : bn (ov_fi po nc q + o) < ov_ln po nc q := by
      apply Nat.lt_of_not_le
      intro z
      exact F.2.2.1 _ hK ⟨k7, by rw [hP]; exact z⟩
    rw [show ov_W pa sg po op aa bn nc m (ov_fi po nc q + o) / 65536 = 7 from by omega] at e4
    rw [show ov_W pa sg po op aa bn nc m (ov_fi po nc q + o) / 256 % 256 = aa (ov_fi po nc q + o) from by omega] at e5
    rw [show ov_W pa sg po op aa bn nc m (ov_fi po nc q + o) % 256 = ov_A pa sg po nc m q + bn (ov_fi po nc q + o) from by omega] at e6
    have e12 := ov_m12 m (aa (ov_fi po nc q + o))
    refine And.intro v2 ⟨v2, nm_r (e' := upd stp m (stp m + 1)) (by rw [ec]) ⟨v2, ov_xhere G HA hm a1 a3 a4 ⟨v2, nm_r (e' := upd trc m (trc m * 31 + nI (q * 128 + o) + 1)) (by rw [ec]) ⟨v2, vc, nm_r (e' := nI (ov_W pa sg po op aa bn nc m (ov_fi po nc q + o))) e3 (nm_r e4 (nm_r e5 (nm_r e6 ( br_f (by decide) (br_f (by decide) (br_f (by decide) (br_f (by decide) (br_f (by decide) (br_f (by decide) (br_f (by decide) (br_f (by decide) (br_f (by decide) (br_t rfl ?_))))))))) ))))⟩⟩⟩⟩
    refine ⟨by rw [e12]; exact vp_in_nI (by omega) (by omega), ek_if (d := val (m * 12 + aa (ov_fi po nc q + o)) = 0) (by rw [e12, nI_clamp (by omega)]) (fun e => ⟨v2, v2, nm_r ?_ (c7a k7 e)⟩) (fun e => ⟨v2, nm_r ?_ (c7b k7 e)⟩)⟩
    · rw [ec, a4, nI_1, Nat.add_assoc]
    · rw [ec]
  · by_cases k8 : op (ov_fi po nc q + o) = 8
    · have hb : bn (ov_fi po nc q + o) < np := by
        apply Nat.lt_of_not_le
        intro z
        exact F.2.2.2.1 _ hK ⟨k8, z⟩
      have hlb := ov_ln_pos F hb
      have hAb := ov_Ae G F hRM hm hb
      by_cases c : m = 0 ∧ ov_on pa (sg (po (ov_fi po nc q + o))) (sg (bn (ov_fi po nc q + o))) = false
      · have hW := ov_W8s (pa := pa) (sg := sg) (po := po) (aa := aa) (bn := bn) (nc := nc) (m := m) k8 c
        have hsn := ov_gsn (pa := pa) (sg := sg) (po := po) (op := op) (bn := bn) (nc := nc) (bn (ov_fi po nc q + o))
        have hsc := S.2.2.2.2.1 (bn (ov_fi po nc q + o)) hb (ov_hs_iff.mpr ⟨_, hK, k8, rfl, c.2⟩)
        rw [show ov_W pa sg po op aa bn nc m (ov_fi po nc q + o) / 65536 = 10 from by omega] at e4
        rw [show ov_W pa sg po op aa bn nc m (ov_fi po nc q + o) % 256 = ov_sn pa sg po op bn nc (bn (ov_fi po nc q + o)) from by omega] at e6
        refine And.intro v2 ⟨v2, nm_r (e' := upd stp m (stp m + 1)) (by rw [ec]) ⟨v2, ov_xhere G HA hm a1 a3 a4 ⟨v2, nm_r (e' := upd trc m (trc m * 31 + nI (q * 128 + o) + 1)) (by rw [ec]) ⟨v2, vc, nm_r (e' := nI (ov_W pa sg po op aa bn nc m (ov_fi po nc q + o))) e3 (nm_r e4 (nm_r e5 (nm_r e6 ( br_f (by decide) (br_f (by decide) (br_f (by decide) (br_f (by decide) (br_f (by decide) (br_f (by decide) (br_f (by decide) (br_f (by decide) (br_f (by decide) (br_f (by decide) (br_f (by decide) (br_f (by decide) (br_t rfl ?_)))))))))))) ))))⟩⟩⟩⟩
        exact ov_xcall L S D hm a1 a3 a4 a6 hb (Or.inl ⟨rfl, _, by omega, rfl, hsc⟩) (by omega) (c8a k8) (c8b k8)
      · have hW := ov_W8 (pa := pa) (sg := sg) (po := po) (aa := aa) (bn := bn) (nc := nc) (m := m) k8 c
        rw [show ov_W pa sg po op aa bn nc m (ov_fi po nc q + o) / 65536 = 8 from by omega] at e4
        rw [show ov_W pa sg po op aa bn nc m (ov_fi po nc q + o) % 256 = ov_A pa sg po nc m (bn (ov_fi po nc q + o)) from by omega] at e6
        have how := ov_own0 D G hm hb hlb (fun z => by
          have hon : ov_on pa (sg q) (sg (bn (ov_fi po nc q + o))) = true := by
            cases hh : ov_on pa (sg q) (sg (bn (ov_fi po nc q + o))) with
            | true => rfl
            | false => exact absurd ⟨z, by rw [hP]; exact hh⟩ c
          exact D.1.1 (sg q) (ov_gs G a1) (a9 z) _ hon)
        refine And.intro v2 ⟨v2, nm_r (e' := upd stp m (stp m + 1)) (by rw [ec]) ⟨v2, ov_xhere G HA hm a1 a3 a4 ⟨v2, nm_r (e' := upd trc m (trc m * 31 + nI (q * 128 + o) + 1)) (by rw [ec]) ⟨v2, vc, nm_r (e' := nI (ov_W pa sg po op aa bn nc m (ov_fi po nc q + o))) e3 (nm_r e4 (nm_r e5 (nm_r e6 ( br_f (by decide) (br_f (by decide) (br_f (by decide) (br_f (by decide) (br_f (by decide) (br_f (by decide) (br_f (by decide) (br_f (by decide) (br_f (by decide) (br_f (by decide) (br_t rfl ?_)))))))))) ))))⟩⟩⟩⟩
        exact ov_xcall L S D hm a1 a3 a4 a6 hb (Or.inr ⟨rfl, _, by omega, rfl, how⟩) (by omega) (c8a k8) (c8b k8)
    · have hW := ov_Wo (pa := pa) (sg := sg) (po := po) (aa := aa) (bn := bn) (nc := nc) (m := m) k7 k8
      rw [show ov_W pa sg po op aa bn nc m (ov_fi po nc q + o) / 65536 = op (ov_fi po nc q + o) from by omega] at e4
      rw [show ov_W pa sg po op aa bn nc m (ov_fi po nc q + o) / 256 % 256 = aa (ov_fi po nc q + o) from by omega] at e5
      rw [show ov_W pa sg po op aa bn nc m (ov_fi po nc q + o) % 256 = bn (ov_fi po nc q + o) from by omega] at e6
      by_cases k0 : op (ov_fi po nc q + o) = 0
      · rw [k0] at e4
        exact And.intro v2 ⟨v2, nm_r (e' := upd stp m (stp m + 1)) (by rw [ec]) ⟨v2, ov_xhere G HA hm a1 a3 a4 ⟨v2, nm_r (e' := upd trc m (trc m * 31 + nI (q * 128 + o) + 1)) (by rw [ec]) ⟨v2, vc, nm_r (e' := nI (ov_W pa sg po op aa bn nc m (ov_fi po nc q + o))) e3 (nm_r e4 (nm_r e5 (nm_r e6 ( br_f (by decide) (br_f (by decide) (br_t rfl ⟨v2, nm_r (by rw [ec]) (c0 k0)⟩)) ))))⟩⟩⟩⟩
      · by_cases k9 : op (ov_fi po nc q + o) = 9
        · rw [k9] at e4
          refine And.intro v2 ⟨v2, nm_r (e' := upd stp m (stp m + 1)) (by rw [ec]) ⟨v2, ov_xhere G HA hm a1 a3 a4 ⟨v2, nm_r (e' := upd trc m (trc m * 31 + nI (q * 128 + o) + 1)) (by rw [ec]) ⟨v2, vc, nm_r (e' := nI (ov_W pa sg po op aa bn nc m (ov_fi po nc q + o))) e3 (nm_r e4 (nm_r e5 (nm_r e6 ( br_f (by decide) (br_f (by decide) (br_f (by decide) (br_f (by decide) (br_f (by decide) (br_f (by decide) (br_f (by decide) (br_f (by decide) (br_f (by decide) (br_f (by decide) (br_f (by decide) (br_t rfl ?_))))))))))) ))))⟩⟩⟩⟩
          exact ov_xret L S D hm a6 (by omega) a8 (c9a k9) (c9b k9)
        · have fin : wX_step_198 post (nI m) (nI (op (ov_fi po nc q + o))) (nI (aa (ov_fi po nc q + o))) (nI (bn (ov_fi po nc q + o))) (nI MS) (nI MP) (nI RM) (nI MD) (nI sc) (nI np) (nI nc) fl rs par pmk (ov_f (ov_sz sg po nc)) bas cur (ov_f sg) fir (ov_f (ov_ln po nc)) cod adr sto stc img cel own sta cu pcc (upd stp m (stp m + 1)) (upd trc m (trc m * 31 + nI (q * 128 + o) + 1)) hei val stk := by
            refine ov_xcmp hm o2 (by omega) (by omega) o3 (fun z => o6 (by omega) (by omega)) ⟨v2, v2, nm_r ?_ (cc (by omega) (by omega))⟩
            rw [ec, a4, nI_1, Nat.add_assoc]
          have n : ∀ a, a < 100 → a ≠ op (ov_fi po nc q + o) → ¬ nI (op (ov_fi po nc q + o)) = nI a := fun a ha hne z => hne ((nI_eq (by omega) (by omega)).mp z).symm
          refine And.intro v2 ⟨v2, nm_r (e' := upd stp m (stp m + 1)) (by rw [ec]) ⟨v2, ov_xhere G HA hm a1 a3 a4 ⟨v2, nm_r (e' := upd trc m (trc m * 31 + nI (q * 128 + o) + 1)) (by rw [ec]) ⟨v2, vc, nm_r (e' := nI (ov_W pa sg po op aa bn nc m (ov_fi po nc q + o))) e3 (nm_r e4 (nm_r e5 (nm_r e6 ( br_f (nI_pos (by omega)) (br_f (nI_nlt (a := 10) (by omega) (by omega)) (br_f (n 0 (by omega) (by omega)) ?_)) ))))⟩⟩⟩⟩
          exact ek_if Iff.rfl (fun _ => fin) (fun m1 => ek_if Iff.rfl (fun _ => fin) (fun m2 => ek_if Iff.rfl (fun _ => fin) (fun m3 => ek_if Iff.rfl (fun _ => fin) (fun m4 => ek_if Iff.rfl (fun _ => fin) (fun m5 => br_t (congrArg nI (by
            have t1 : op (ov_fi po nc q + o) ≠ 1 := fun z => m1 (congrArg nI z)
            have t2 : op (ov_fi po nc q + o) ≠ 2 := fun z => m2 (congrArg nI z)
            have t3 : op (ov_fi po nc q + o) ≠ 3 := fun z => m3 (congrArg nI z)
            have t4 : op (ov_fi po nc q + o) ≠ 4 := fun z => m4 (congrArg nI z)
            have t5 : op (ov_fi po nc q + o) ≠ 5 := fun z => m5 (congrArg nI z)
            omega : op (ov_fi po nc q + o) = 6)) fin)))))
end
end
section
/-! one step of the reference; both together; run -/
section
variable {MS MP RM MD sc np nc : Nat} {fl rs : Int32} {pa sg po op aa bn : Nat → Nat} {par pmk bas cur fir cod adr sto stc img cel own sta cu pcc stp trc hei val stk bb pos : Nat → Int32}
theorem ov_ystep (L : ov_AL MS MP RM MD sc np nc pa sg po op aa bn par pmk fir cod bb) {m q o h : Nat} (hm : m < 2) (a1 : q < np) (a2 : o < ov_ln po nc q) (a5 : pos m = nI (q * 128 + o)) (a6 : hei m = nI h) (a7 : h ≤ MD) (C : ∀ k, k < nc → ¬ ov_BC op bn np k) {pY : SY → Prop}
    (c0 : op (ov_fi po nc q + o) = 0 → pY (nI MS, nI MP, nI RM, nI MD, nI sc, nI np, nI nc, fl, ov_f pa, ov_f sg, ov_f po, ov_f op, ov_f aa, bb, val, upd sta m 1, pos, upd stp m (stp m + 1), upd trc m (trc m * 31 + nI (q * 128 + o) + 1), hei, stk))
    (c9a : op (ov_fi po nc q + o) = 9 → h = 0 → pY (nI MS, nI MP, nI RM, nI MD, nI sc, nI np, nI nc, fl, ov_f pa, ov_f sg, ov_f po, ov_f op, ov_f aa, bb, val, upd sta m 2, pos, upd stp m (stp m + 1), upd trc m (trc m * 31 + nI (q * 128 + o) + 1), hei, stk))
    (c9b : op (ov_fi po nc q + o) = 9 → 0 < h → pY (nI MS, nI MP, nI RM, nI MD, nI sc, nI np, nI nc, fl, ov_f pa, ov_f sg, ov_f po, ov_f op, ov_f aa, bb, val, sta, upd pos m (stk (m * 16 + (h - 1))), upd stp m (stp m + 1), upd trc m (trc m * 31 + nI (q * 128 + o) + 1), upd hei m (nI (h - 1)), stk))
    (c8a : op (ov_fi po nc q + o) = 8 → ¬ h < MD → pY (nI MS, nI MP, nI RM, nI MD, nI sc, nI np, nI nc, fl, ov_f pa, ov_f sg, ov_f po, ov_f op, ov_f aa, bb, val, upd sta m 3, pos, upd stp m (stp m + 1), upd trc m (trc m * 31 + nI (q * 128 + o) + 1), hei, stk))
    (c8b : op (ov_fi po nc q + o) = 8 → h < MD → pY (nI MS, nI MP, nI RM, nI MD, nI sc, nI np, nI nc, fl, ov_f pa, ov_f sg, ov_f po, ov_f op, ov_f aa, bb, val, sta, upd pos m (nI (bn (ov_fi po nc q + o) * 128 + 0)), upd stp m (stp m + 1), upd trc m (trc m * 31 + nI (q * 128 + o) + 1), upd hei m (nI (h + 1)), upd stk (m * 16 + h) (nI (q * 128 + (o + 1)))))
    (c7a : op (ov_fi po nc q + o) = 7 → val (m * 12 + aa (ov_fi po nc q + o)) = 0 → pY (nI MS, nI MP, nI RM, nI MD, nI sc, nI np, nI nc, fl, ov_f pa, ov_f sg, ov_f po, ov_f op, ov_f aa, bb, val, sta, upd pos m (nI (q * 128 + (o + 1))), upd stp m (stp m + 1), upd trc m (trc m * 31 + nI (q * 128 + o) + 1), hei, stk))
    (c7b : op (ov_fi po nc q + o) = 7 → ¬ val (m * 12 + aa (ov_fi po nc q + o)) = 0 → pY (nI MS, nI MP, nI RM, nI MD, nI sc, nI np, nI nc, fl, ov_f pa, ov_f sg, ov_f po, ov_f op, ov_f aa, bb, val, sta, upd pos m (nI (q * 128 + bn (ov_fi po nc q + o))), upd stp m (stp m + 1), upd trc m (trc m * 31 + nI (q * 128 + o) + 1), hei, stk))
    (cc : 1 ≤ op (ov_fi po nc q + o) → op (ov_fi po nc q + o) ≤ 6 → pY (nI MS, nI MP, nI RM, nI MD, nI sc, nI np, nI nc, fl, ov_f pa, ov_f sg, ov_f po, ov_f op, ov_f aa, bb, ov_cv (op (ov_fi po nc q + o)) m (aa (ov_fi po nc q + o)) (bn (ov_fi po nc q + o)) val, sta, upd pos m (nI (q * 128 + (o + 1))), upd stp m (stp m + 1), upd trc m (trc m * 31 + nI (q * 128 + o) + 1), hei, stk)) :
    wpY_step pY (nI MS, nI MP, nI RM, nI MD, nI sc, nI np, nI nc, fl, ov_f pa, ov_f sg, ov_f po, ov_f op, ov_f aa, bb, val, sta, pos, stp, trc, hei, stk) (nI m) := by
  have G := L.2.1
  have B := L.2.2.2.2.2.2
  have hMD := L.1.2.2.2
  have h12 := ov_g12 G
  have h128 := ov_g128 G
  have hln := ov_gln G q
  have v2 : vp_in (nI m) 2 := vp_in_nI (by omega) (by omega)
  have ec : (nI m).toNatClampNeg = m := nI_clamp (by omega)
  obtain ⟨hK, hP⟩ := ov_po_at (ov_gM G) a2
  obtain ⟨o1, o2, o3, o4, o5, o6, o7⟩ := ov_gO G hK
  have e7 : nI (q * 128 + o) >>> ((7 : Int32) &&& 31) = nI q := by rw [ov_w7 (by omega)]; exact congrArg nI (by omega)
  have e127 : nI (q * 128 + o) &&& 127 = nI o := by rw [ov_w127 (by omega)]; exact congrArg nI (by omega)
  refine And.intro v2 (nm_r (e' := nI (q * 128 + o)) (by rw [ec, a5]) (ov_yfind G (p := q) (by omega) e7 (fun i hi ei => ?_) (fun hb => absurd e127 (hb o a2))))
  rw [e127] at ei
  have eio : o = i := (nI_eq (by omega) (by omega)).mp ei
  subst eio
  have vk : vp_in (nI (ov_fi po nc q + o)) 128 := vp_in_nI (by omega) (by omega)
  have ek : (nI (ov_fi po nc q + o)).toNatClampNeg = ov_fi po nc q + o := nI_clamp (by omega)
  have eop : ov_f op (nI (ov_fi po nc q + o)).toNatClampNeg = nI (op (ov_fi po nc q + o)) := ov_at (by omega)
  have eaa : ov_f aa (nI (ov_fi po nc q + o)).toNatClampNeg = nI (aa (ov_fi po nc q + o)) := ov_at (by omega)
  obtain ⟨b3, hb3, eb3⟩ := pk_andE (bb (ov_fi po nc q + o)) (m := 3) 2 (by decide)
  have hb3' : b3 < 4 := hb3
  obtain ⟨d, hd, ed⟩ := ov_and7 (val (m * 12 + b3))
  have v7 : vp_in (nI (m * 12 + b3)) 24 := vp_in_nI (by omega) (by omega)
  have v6 : vp_in (nI (m * 12 + aa (ov_fi po nc q + o))) 24 := vp_in_nI (by omega) (by omega)
  have eb : op (ov_fi po nc q + o) ≠ 1 → bb (ov_fi po nc q + o) = nI (bn (ov_fi po nc q + o)) := (B _ hK).2
  refine br_t (nI_pos' (by omega)) ⟨vk, nm_r eop ⟨vk, nm_r (e' := bb (ov_fi po nc q + o)) (by rw [ek]) ⟨vk, nm_r (e' := nI (m * 12 + aa (ov_fi po nc q + o))) (by rw [eaa, ov_m12]) (nm_r (e' := nI (m * 12 + b3)) (by rw [eb3, ov_m12]) ⟨v7, nm_r (e' := nI (m * 12 + 4 + d)) (by rw [nI_clamp (by omega), ed, ov_m124]) ⟨v2, v2, nm_r (e' := upd stp m (stp m + 1)) (by rw [ec]) ⟨v2, v2, nm_r (e' := upd trc m (trc m * 31 + nI (q * 128 + o) + 1)) (by rw [ec]) ?_⟩⟩⟩)⟩⟩⟩
  refine ek_if (nI_eq (b := 0) (by omega) (by omega)) (fun k0 => ⟨v2, nm_r (by rw [ec]) (c0 k0)⟩) (fun k0 => ek_if (nI_eq (b := 9) (by omega) (by omega)) (fun k9 => ⟨v2, ?_⟩) (fun k9 => ek_if (nI_eq (b := 8) (by omega) (by omega)) (fun k8 => ⟨v2, ?_⟩) (fun k8 => ek_if (nI_eq (b := 7) (by omega) (by omega)) (fun k7 => ⟨v6, ?_⟩) (fun k7 => ?_))))
  · refine ek_if (d := h = 0) (by rw [ec, a6]; exact nI_eq (b := 0) (by omega) (by omega)) (fun e => ⟨v2, nm_r (by rw [ec]) (c9a k9 e)⟩) (fun e => ?_)
    have e16 : nI m * 16 + upd hei m (nI (h - 1)) (nI m).toNatClampNeg = nI (m * 16 + (h - 1)) := by
      rw [ec, pk_us, ← nI_add, ← pk_mul]; rfl
    exact ⟨v2, v2, nm_r (e' := upd hei m (nI (h - 1))) (by rw [ec, a6, ov_sub1 (by omega)]) ⟨v2, by rw [e16]; exact vp_in_nI (by omega) (by omega), v2, nm_r (e' := upd pos m (stk (m * 16 + (h - 1)))) (by rw [e16, ec, nI_clamp (by omega)]) (c9b k9 (by omega))⟩⟩
  · have e16 : nI m * 16 + hei (nI m).toNatClampNeg = nI (m * 16 + h) := by
      rw [ec, a6, ← nI_add, ← pk_mul]; rfl
    refine ek_if (d := h < MD) (by rw [ec, a6]; exact nI_ltI (by omega) (by omega)) (fun e => ⟨v2, by rw [e16]; exact vp_in_nI (by omega) (by omega), nm_r (e' := upd stk (m * 16 + h) (nI (q * 128 + (o + 1)))) (by rw [e16, nI_clamp (by omega), nI_1, Nat.add_assoc]) ⟨v2, v2, nm_r (e' := upd hei m (nI (h + 1))) (by rw [ec, a6, nI_1]) ⟨v2, nm_r (e' := upd pos m (nI (bn (ov_fi po nc q + o) * 128 + 0))) ?_ (c8b k8 e)⟩⟩⟩) (fun e => ⟨v2, nm_r (by rw [ec]) (c8a k8 e)⟩)
    rw [ec, eb (by omega), show (128 : Int32) = nI 128 from rfl, pk_mul]; rfl
  · refine ek_if (d := val (m * 12 + aa (ov_fi po nc q + o)) = 0) (by rw [nI_clamp (by omega)]) (fun e => ⟨v2, nm_r (by rw [ec, nI_1, Nat.add_assoc]) (c7a k7 e)⟩) (fun e => ⟨v2, nm_r ?_ (c7b k7 e)⟩)
    rw [ec, e7, eb (by omega), show (128 : Int32) = nI 128 from rfl, pk_mul, nI_add]
  · by_cases k1 : op (ov_fi po nc q + o) = 1
    · have hcc := cc (by omega) (by omega)
      rw [show ov_cv (op (ov_fi po nc q + o)) m (aa (ov_fi po nc q + o)) (bn (ov_fi po nc q + o)) val = upd val (m * 12 + aa (ov_fi po nc q + o)) (nI (bn (ov_fi po nc q + o))).toInt8.toInt32 from if_pos k1] at hcc
      rw [k1]
      refine br_t rfl ⟨v6, nm_r (e' := upd val (m * 12 + aa (ov_fi po nc q + o)) (nI (bn (ov_fi po nc q + o))).toInt8.toInt32) (by rw [nI_clamp (by omega), (B _ hK).1 k1]) (ov_y321s hm ?_)⟩
      rw [nI_1, Nat.add_assoc]
      exact hcc
    · have hb4 := o6 (by omega) (by omega)
      have e3 : b3 = bn (ov_fi po nc q + o) := by
        rw [eb k1] at eb3
        have e4 : nI (bn (ov_fi po nc q + o)) &&& 3 = nI (bn (ov_fi po nc q + o) % 2 ^ 2) := pk_andN (by omega) 2 (by decide)
        rw [e4] at eb3
        have := (nI_eq (by omega) (by omega)).mp eb3
        omega
      subst e3
      refine br_f (fun z => k1 ((nI_eq (b := 1) (by omega) (by omega)).mp z)) (ov_y321 hm o2 (by omega) (by omega) hb4 ed hd ?_)
      rw [nI_1, Nat.add_assoc]
      exact cc (by omega) (by omega)
end
end
section
/-! a step of both sides; run -/
section
variable {MS MP RM MD sc np nc : Nat} {fl rs : Int32} {pa sg po op aa bn : Nat → Nat} {par pmk bas cur fir cod adr sto stc img cel own sta cu pcc stp trc hei val stk bb pos : Nat → Int32}
theorem ov_step (L : ov_AL MS MP RM MD sc np nc pa sg po op aa bn par pmk fir cod bb) (S : ov_ST RM sc np nc pa sg po op aa bn bas adr sto stc img) (D : ov_DY MD sc np nc pa sg po op aa bn rs cel own cu pcc pos hei stk) {m : Nat} (hm : m < 2) {post : SX → Prop}
    (K : ∀ (rs' : Int32) (cel' own' sta' cu' pcc' stp' trc' hei' val' stk' pos' : Nat → Int32), ov_DY MD sc np nc pa sg po op aa bn rs' cel' own' cu' pcc' pos' hei' stk' → (∀ pY : SY → Prop, pY (nI MS, nI MP, nI RM, nI MD, nI sc, nI np, nI nc, fl, ov_f pa, ov_f sg, ov_f po, ov_f op, ov_f aa, bb, val', sta', pos', stp', trc', hei', stk') → wpY_step pY (nI MS, nI MP, nI RM, nI MD, nI sc, nI np, nI nc, fl, ov_f pa, ov_f sg, ov_f po, ov_f op, ov_f aa, bb, val, sta, pos, stp, trc, hei, stk) (nI m)) → post (nI MS, nI MP, nI RM, nI MD, nI sc, nI np, nI nc, fl, rs', par, pmk, ov_f (ov_sz sg po nc), bas, cur, ov_f sg, fir, ov_f (ov_ln po nc), cod, adr, sto, stc, img, cel', own', sta', cu', pcc', stp', trc', hei', val', stk')) : wpX_step post (nI MS, nI MP, nI RM, nI MD, nI sc, nI np, nI nc, fl, rs, par, pmk, ov_f (ov_sz sg po nc), bas, cur, ov_f sg, fir, ov_f (ov_ln po nc), cod, adr, sto, stc, img, cel, own, sta, cu, pcc, stp, trc, hei, val, stk) (nI m) := by
  obtain ⟨q, o, h, a1, a2, a3, a4, a5, a6, a7, a8, a9⟩ := D.2.2 m hm
  have G := L.2.1
  have F := S.1
  have hMD := L.1.2.2.2
  have C := F.2.2.2.1
  obtain ⟨hK, hP⟩ := ov_po_at (ov_gM G) a2
  refine ov_xstep L S D hm a1 a2 a3 a4 a6 a7 a8 a9 (fun k0 => ?_) (fun k9 hz => ?_) (fun k9 hz a b ha hb hab rs' cel' own' r1 r2 r3 r4 => ?_) (fun k8 hz => ?_) (fun k8 hz rs' cel' own' r1 r2 r3 r4 => ?_) (fun k7 hz => ?_) (fun k7 hz => ?_) (fun k1 k6 => ?_)
  · refine K rs cel own (upd sta m 1) cu pcc (upd stp m (stp m + 1)) (upd trc m (trc m * 31 + nI (q * 128 + o) + 1)) hei val stk pos D (fun pY hY => ?_)
    exact ov_ystep L hm a1 a2 a5 a6 a7 C (fun _ => hY) (fun z => by omega) (fun z => by omega) (fun z => by omega) (fun z => by omega) (fun z => by omega) (fun z => by omega) (fun z => by omega)
  · refine K rs cel own (upd sta m 2) cu pcc (upd stp m (stp m + 1)) (upd trc m (trc m * 31 + nI (q * 128 + o) + 1)) hei val stk pos D (fun pY hY => ?_)
    exact ov_ystep L hm a1 a2 a5 a6 a7 C (fun z => by omega) (fun _ _ => hY) (fun _ z => by omega) (fun z => by omega) (fun z => by omega) (fun z => by omega) (fun z => by omega) (fun z y => by omega)
  · refine K rs' cel' own' sta (upd cu m (nI a)) (upd pcc m (nI (ov_A pa sg po nc m a + b))) (upd stp m (stp m + 1)) (upd trc m (trc m * 31 + nI (q * 128 + o) + 1)) (upd hei m (nI (h - 1))) val stk (upd pos m (nI (a * 128 + b))) (ov_dy D hMD hm r1 r2 r4 (fun n hn => ⟨pk_un hn, pk_un hn, pk_un hn, pk_un hn⟩) (fun _ _ _ _ => rfl) ?_) (fun pY hY => ?_)
    · exact ⟨a, b, h - 1, ha, hb, pk_us, pk_us, pk_us, pk_us, by omega, fun j hj => a8 j (by omega), r3⟩
    · exact ov_ystep L hm a1 a2 a5 a6 a7 C (fun z => by omega) (fun _ z => by omega) (fun _ _ => by rw [hab]; exact hY) (fun z => by omega) (fun z => by omega) (fun z => by omega) (fun z => by omega) (fun z y => by omega)
  · refine K rs cel own (upd sta m 3) cu pcc (upd stp m (stp m + 1)) (upd trc m (trc m * 31 + nI (q * 128 + o) + 1)) hei val stk pos D (fun pY hY => ?_)
    exact ov_ystep L hm a1 a2 a5 a6 a7 C (fun z => by omega) (fun z => by omega) (fun z => by omega) (fun _ _ => hY) (fun _ z => absurd z hz) (fun z => by omega) (fun z => by omega) (fun z y => by omega)
  · have hb : bn (ov_fi po nc q + o) < np := by
      apply Nat.lt_of_not_le
      intro z
      exact C _ hK ⟨k8, z⟩
    have hlb := ov_ln_pos F hb
    have hnl := ov_nl F a1 a2 (by omega) (by omega)
    refine K rs' cel' own' sta (upd cu m (nI (bn (ov_fi po nc q + o)))) (upd pcc m (nI (ov_A pa sg po nc m (bn (ov_fi po nc q + o)) + 0))) (upd stp m (stp m + 1)) (upd trc m (trc m * 31 + nI (q * 128 + o) + 1)) (upd hei m (nI (h + 1))) val (upd stk (m * 16 + h) (nI (q * 128 + (o + 1)))) (upd pos m (nI (bn (ov_fi po nc q + o) * 128 + 0))) (ov_dy D hMD hm r1 r2 r4 (fun n hn => ⟨pk_un hn, pk_un hn, pk_un hn, pk_un hn⟩) (fun n j hn hj => pk_un (by omega)) ?_) (fun pY hY => ?_)
    · refine ⟨bn (ov_fi po nc q + o), 0, h + 1, hb, hlb, pk_us, pk_us, pk_us, pk_us, by omega, fun j hj => ?_, r3⟩
      by_cases e : j = h
      · rw [e]; exact ⟨q, o + 1, a1, hnl, pk_us⟩
      · rw [pk_un (by omega)]; exact a8 j (by omega)
    · exact ov_ystep L hm a1 a2 a5 a6 a7 C (fun z => by omega) (fun z => by omega) (fun z => by omega) (fun _ z => absurd hz z) (fun _ _ => hY) (fun z => by omega) (fun z => by omega) (fun z y => by omega)
  · have hnl := ov_nl F a1 a2 (by omega) (by omega)
    refine K rs cel own sta cu (upd pcc m (nI (ov_A pa sg po nc m q + (o + 1)))) (upd stp m (stp m + 1)) (upd trc m (trc m * 31 + nI (q * 128 + o) + 1)) hei val stk (upd pos m (nI (q * 128 + (o + 1)))) (ov_dy D hMD hm D.1 D.2.1 (fun _ => rfl) (fun n hn => ⟨rfl, pk_un hn, pk_un hn, rfl⟩) (fun _ _ _ _ => rfl) ?_) (fun pY hY => ?_)
    · exact ⟨q, o + 1, h, a1, hnl, a3, pk_us, pk_us, a6, a7, a8, a9⟩
    · exact ov_ystep L hm a1 a2 a5 a6 a7 C (fun z => by omega) (fun z => by omega) (fun z => by omega) (fun z => by omega) (fun z => by omega) (fun _ _ => hY) (fun _ z => absurd hz z) (fun z y => by omega)
  · have hbt : bn (ov_fi po nc q + o) < ov_ln po nc q := by
      apply Nat.lt_of_not_le
      intro z
      exact F.2.2.1 _ hK ⟨k7, by rw [hP]; exact z⟩
    refine K rs cel own sta cu (upd pcc m (nI (ov_A pa sg po nc m q + bn (ov_fi po nc q + o)))) (upd stp m (stp m + 1)) (upd trc m (trc m * 31 + nI (q * 128 + o) + 1)) hei val stk (upd pos m (nI (q * 128 + bn (ov_fi po nc q + o)))) (ov_dy D hMD hm D.1 D.2.1 (fun _ => rfl) (fun n hn => ⟨rfl, pk_un hn, pk_un hn, rfl⟩) (fun _ _ _ _ => rfl) ?_) (fun pY hY => ?_)
    · exact ⟨q, bn (ov_fi po nc q + o), h, a1, hbt, a3, pk_us, pk_us, a6, a7, a8, a9⟩
    · exact ov_ystep L hm a1 a2 a5 a6 a7 C (fun z => by omega) (fun z => by omega) (fun z => by omega) (fun z => by omega) (fun z => by omega) (fun _ z => absurd z hz) (fun _ _ => hY) (fun z y => by omega)
  · have hnl := ov_nl F a1 a2 (by omega) (by omega)
    refine K rs cel own sta cu (upd pcc m (nI (ov_A pa sg po nc m q + (o + 1)))) (upd stp m (stp m + 1)) (upd trc m (trc m * 31 + nI (q * 128 + o) + 1)) hei (ov_cv (op (ov_fi po nc q + o)) m (aa (ov_fi po nc q + o)) (bn (ov_fi po nc q + o)) val) stk (upd pos m (nI (q * 128 + (o + 1)))) (ov_dy D hMD hm D.1 D.2.1 (fun _ => rfl) (fun n hn => ⟨rfl, pk_un hn, pk_un hn, rfl⟩) (fun _ _ _ _ => rfl) ?_) (fun pY hY => ?_)
    · exact ⟨q, o + 1, h, a1, hnl, a3, pk_us, pk_us, a6, a7, a8, a9⟩
    · exact ov_ystep L hm a1 a2 a5 a6 a7 C (fun z => by omega) (fun z => by omega) (fun z => by omega) (fun z => by omega) (fun z => by omega) (fun z => by omega) (fun z => by omega) (fun _ _ => hY)
end
section
variable {f_maxSegments f_maxProcedures f_maxMemory f_maxDepth f_segs f_procs f_count f_linked : Int32} {a_parent a_segOf a_procOf a_ops a_as a_bs a_cells a_stat a_pos a_stepCount a_traces a_held a_stack : Nat → Int32} {m N : Nat} {x3 : Int32} {pY : Int32 → SY → Prop}
theorem ov_yidle (hm : m < 2) (hN : N ≤ 128) (hst : ¬ a_stat m = 0) (h : pY x3 (f_maxSegments, f_maxProcedures, f_maxMemory, f_maxDepth, f_segs, f_procs, f_count, f_linked, a_parent, a_segOf, a_procOf, a_ops, a_as, a_bs, a_cells, a_stat, a_pos, a_stepCount, a_traces, a_held, a_stack)) : ∀ d t n, t + d = N → d < n → wY_run_26 pY (nI m) (nI N) n x3 (nI t) f_maxSegments f_maxProcedures f_maxMemory f_maxDepth f_segs f_procs f_count f_linked a_parent a_segOf a_procOf a_ops a_as a_bs a_cells a_stat a_pos a_stepCount a_traces a_held a_stack := by
  intro d
  induction d with
  | zero =>
    intro t n ht hn
    obtain ⟨n, rfl⟩ : ∃ n', n = n' + 1 := ⟨n - 1, by omega⟩
    exact br_t (nI_le (by omega) (by omega)) h
  | succ d ih =>
    intro t n ht hn
    obtain ⟨n, rfl⟩ : ∃ n', n = n' + 1 := ⟨n - 1, by omega⟩
    exact br_f (nI_ge (by omega) (by omega)) ⟨vp_in_nI (by omega) (by omega), br_f (by rw [nI_clamp (by omega)]; exact hst) (nm_r (nI_1 t) (ih (t + 1) n (by omega) (by omega)))⟩
end
section
variable {MS MP RM MD sc np nc : Nat} {fl rs : Int32} {pa sg po op aa bn : Nat → Nat} {par pmk bas cur fir cod adr sto stc img cel own sta cu pcc stp trc hei val stk bb pos : Nat → Int32} {k : Nat}
theorem ov_xrun (L : ov_AL MS MP RM MD sc np nc pa sg po op aa bn par pmk fir cod bb) (S : ov_ST RM sc np nc pa sg po op aa bn bas adr sto stc img) {m N : Nat} (hm : m < 2) (hN : N ≤ 128) {post : Int32 → SX → Prop} :
    ∀ d t n (rs : Int32) (cel own sta cu pcc stp trc hei val stk pos : Nat → Int32), t + d = N → d < n → ov_DY MD sc np nc pa sg po op aa bn rs cel own cu pcc pos hei stk →
      (∀ (r : Int32) (rs' : Int32) (cel' own' sta' cu' pcc' stp' trc' hei' val' stk' pos' : Nat → Int32), ov_DY MD sc np nc pa sg po op aa bn rs' cel' own' cu' pcc' pos' hei' stk' → (∀ (pY : Int32 → SY → Prop) (nY : Nat), d < nY → pY r (nI MS, nI MP, nI RM, nI MD, nI sc, nI np, nI nc, fl, ov_f pa, ov_f sg, ov_f po, ov_f op, ov_f aa, bb, val', sta', pos', stp', trc', hei', stk') → wY_run_26 pY (nI m) (nI N) nY (nI t) (nI t) (nI MS) (nI MP) (nI RM) (nI MD) (nI sc) (nI np) (nI nc) fl (ov_f pa) (ov_f sg) (ov_f po) (ov_f op) (ov_f aa) bb val sta pos stp trc hei stk) → post r (nI MS, nI MP, nI RM, nI MD, nI sc, nI np, nI nc, fl, rs', par, pmk, ov_f (ov_sz sg po nc), bas, cur, ov_f sg, fir, ov_f (ov_ln po nc), cod, adr, sto, stc, img, cel', own', sta', cu', pcc', stp', trc', hei', val', stk')) →
      wX_run_24 post (nI m) (nI N) n (nI t) (nI MS) (nI MP) (nI RM) (nI MD) (nI sc) (nI np) (nI nc) fl rs par pmk (ov_f (ov_sz sg po nc)) bas cur (ov_f sg) fir (ov_f (ov_ln po nc)) cod adr sto stc img cel own sta cu pcc stp trc hei val stk := by
  intro d
  induction d with
  | zero =>
    intro t n rs cel own sta cu pcc stp trc hei val stk pos ht hn D K
    obtain ⟨n, rfl⟩ : ∃ n', n = n' + 1 := ⟨n - 1, by omega⟩
    refine br_t (nI_le (by omega) (by omega)) (K (nI t) rs cel own sta cu pcc stp trc hei val stk pos D (fun pY nY hnY hY => ?_))
    obtain ⟨nY, rfl⟩ : ∃ n', nY = n' + 1 := ⟨nY - 1, by omega⟩
    exact br_t (nI_le (by omega) (by omega)) hY
  | succ d ih =>
    intro t n rs cel own sta cu pcc stp trc hei val stk pos ht hn D K
    obtain ⟨n, rfl⟩ : ∃ n', n = n' + 1 := ⟨n - 1, by omega⟩
    have v2 : vp_in (nI m) 2 := vp_in_nI (by omega) (by omega)
    have ec : (nI m).toNatClampNeg = m := nI_clamp (by omega)
    refine br_f (nI_ge (by omega) (by omega)) ⟨v2, ek_if (d := sta m = 0) (by rw [ec]) (fun hs => ?_) (fun hs => K (nI t) rs cel own sta cu pcc stp trc hei val stk pos D (fun pY nY hnY hY => ov_yidle hm hN hs hY (d + 1) t nY ht hnY))⟩
    refine ov_step L S D hm (fun rs1 cel1 own1 sta1 cu1 pcc1 stp1 trc1 hei1 val1 stk1 pos1 D1 hY1 => ?_)
    refine nm_r (nI_1 t) (ih (t + 1) n rs1 cel1 own1 sta1 cu1 pcc1 stp1 trc1 hei1 val1 stk1 pos1 (by omega) (by omega) D1 (fun r rs' cel' own' sta' cu' pcc' stp' trc' hei' val' stk' pos' D2 hY2 => ?_))
    refine K r rs' cel' own' sta' cu' pcc' stp' trc' hei' val' stk' pos' D2 (fun pY nY hnY hY => ?_)
    obtain ⟨nY, rfl⟩ : ∃ n', nY = n' + 1 := ⟨nY - 1, by omega⟩
    refine br_f (nI_ge (by omega) (by omega)) ⟨v2, br_t (by rw [ec]; exact hs) (hY1 _ ?_)⟩
    exact nm_r (nI_1 t) (nm_r (nI_1 t) (hY2 pY nY (by omega) hY))
theorem ov_run (H : ov_R MS MP RM MD sc np nc fl rs pa sg po op aa bn par pmk bas cur fir cod adr sto stc img cel own sta cu pcc stp trc hei val stk bb pos) (v1 v2 : Int32) : wpX_run (fun r u' => wpY_run (fun r' v' => r' = r ∧ i_Rel k u' v') (nI MS, nI MP, nI RM, nI MD, nI sc, nI np, nI nc, fl, ov_f pa, ov_f sg, ov_f po, ov_f op, ov_f aa, bb, val, sta, pos, stp, trc, hei, stk) v1 v2) (nI MS, nI MP, nI RM, nI MD, nI sc, nI np, nI nc, fl, rs, par, pmk, ov_f (ov_sz sg po nc), bas, cur, ov_f sg, fir, ov_f (ov_ln po nc), cod, adr, sto, stc, img, cel, own, sta, cu, pcc, stp, trc, hei, val, stk) v1 v2 := by
  unfold wpX_run wpY_run
  rcases ov_ml fl v1 with h | ⟨h, m, hm, rfl⟩
  · exact ov_xdead h (br_t rfl (ov_ydead h (br_f (by decide) ⟨rfl, ov_in H⟩)))
  · obtain ⟨S, D⟩ := H.2 h
    refine ov_xlive h hm (br_f (by decide) ?_)
    rcases ov_rg v2 (n := 128) (by omega) with h1 | ⟨h1, h2, h3⟩ | ⟨N, hN, rfl⟩
    · exact br_t h1 (br_t rfl (ov_ylive h hm (br_t rfl (br_t h1 ⟨rfl, ov_in H⟩))))
    · exact br_f h1 (br_t h2 (br_t rfl (ov_ylive h hm (br_t rfl (br_f h1 (br_f h3 ⟨rfl, ov_in H⟩))))))
    · refine br_f (nI_pos (by omega)) (br_f (nI_nlt (a := 128) (by omega) (by omega)) (br_f (by decide) (Exists.intro (N + 1) ?_)))
      refine ov_xrun H.1 S hm hN N 0 (N + 1) rs cel own sta cu pcc stp trc hei val stk pos (by omega) (by omega) D (fun r rs' cel' own' sta' cu' pcc' stp' trc' hei' val' stk' pos' D' hY => ?_)
      exact ov_ylive h hm (br_t rfl (br_f (nI_pos (by omega)) (br_t (nI_le (b := 128) hN (by omega)) (Exists.intro (N + 1) (hY _ (N + 1) (by omega) ⟨rfl, ov_in ⟨H.1, fun _ => ⟨S, D'⟩⟩⟩)))))
end
end
section
/-! memory -/
section
variable {f_maxSegments f_maxProcedures f_maxMemory f_maxDepth f_segs f_procs f_count f_linked : Int32} {a_parent a_segOf a_procOf a_ops a_as a_bs a_cells a_stat a_pos a_stepCount a_traces a_held a_stack : Nat → Int32} {sc np nc : Nat} {pa sg po op aa bn : Nat → Nat} {bb : Nat → Int32} {post : Int32 → Prop}
theorem ov_ymem (G : ov_PG sc np nc pa sg po op aa bn) (B : ov_BB op bn nc bb) (C : ∀ k, k < nc → ¬ ov_BC op bn np k) {m s a : Nat} (hm : m < 2) (hs : s < sc) (ha : a < 128)
    (hv : ∀ p, p < np → (m = 1 ∨ ov_on pa s (sg p) = true) → ∀ i, i < ov_ln po nc p → a = ov_A pa sg po nc m p + i → post (nI (ov_W pa sg po op aa bn nc m (ov_fi po nc p + i)))) :
    ∀ d j n, j + d = np → d < n → (∃ p, j ≤ p ∧ p < np ∧ (m = 1 ∨ ov_on pa s (sg p) = true) ∧ ov_A pa sg po nc m p ≤ a ∧ a < ov_A pa sg po nc m p + ov_ln po nc p) → wY_memory_65 post (nI m) (nI a) (nI s) f_maxSegments f_maxProcedures f_maxMemory f_maxDepth (nI sc) (nI np) (nI nc) f_linked (ov_f pa) (ov_f sg) (ov_f po) (ov_f op) (ov_f aa) bb a_cells a_stat a_pos a_stepCount a_traces a_held a_stack n (nI j) := by
  have h12 := ov_g12 G
  have h8 := ov_g8 G
  intro d
  induction d with
  | zero =>
    intro j n hj hn ⟨p, h1, h2, _⟩
    omega
  | succ d ih =>
    intro j n hj hn ⟨p, h1, h2, h3, h4, h5⟩
    obtain ⟨n, rfl⟩ : ∃ n', n = n' + 1 := ⟨n - 1, by omega⟩
    have hj' : j < np := by omega
    have hsg := ov_gs G hj'
    have hA := ov_gA G m j
    have hln := ov_gln G j
    have nxt : p ≠ j → wY_memory_65 post (nI m) (nI a) (nI s) f_maxSegments f_maxProcedures f_maxMemory f_maxDepth (nI sc) (nI np) (nI nc) f_linked (ov_f pa) (ov_f sg) (ov_f po) (ov_f op) (ov_f aa) bb a_cells a_stat a_pos a_stepCount a_traces a_held a_stack n (nI (j + 1)) := fun hne =>
      ih (j + 1) n (by omega) (by omega) ⟨p, by omega, h2, h3, h4, h5⟩
    have t94 : (m = 1 ∨ ov_on pa s (sg j) = true) → wY_memory_94 post (wY_memory_65 post (nI m) (nI a) (nI s) f_maxSegments f_maxProcedures f_maxMemory f_maxDepth (nI sc) (nI np) (nI nc) f_linked (ov_f pa) (ov_f sg) (ov_f po) (ov_f op) (ov_f aa) bb a_cells a_stat a_pos a_stepCount a_traces a_held a_stack n) (nI m) (nI a) (nI s) (nI j) f_maxSegments f_maxProcedures f_maxMemory f_maxDepth (nI sc) (nI np) (nI nc) f_linked (ov_f pa) (ov_f sg) (ov_f po) (ov_f op) (ov_f aa) bb a_cells a_stat a_pos a_stepCount a_traces a_held a_stack := by
      intro hc
      refine ov_yadr G hm hj' rfl rfl (ov_yfind G (p := j) (by omega) rfl (fun i hi e => ?_) (fun hb => br_t (by decide) (nm_r (nI_1 j) (nxt (fun z => ?_)))))
      · have e1 := congrArg Int32.toInt e
        rw [pk_sub_toInt (by omega) (by omega), nI_toInt (by omega)] at e1
        obtain ⟨hK, hP⟩ := ov_po_at (ov_gM G) hi
        have h128 := ov_g128 G
        exact br_f (nI_pos (by omega)) (ov_yword G B C hm hK rfl rfl (hv j hj' hc i hi (by omega)))
      · subst z
        exact hb (a - ov_A pa sg po nc m p) (by omega) (pk_sub h4)
    refine br_f (nI_ge (by omega) (by omega)) ?_
    rcases (by omega : m = 0 ∨ m = 1) with em | em
    · subst em
      refine br_f (by decide) ⟨vp_in_nI (by omega) (by omega), ov_yon G hs (by omega : sg j < 8) rfl (ov_at (by omega)) (fun e => br_f (by decide) (t94 (Or.inr e))) (fun e => br_t rfl (nm_r (nI_1 j) (nxt (fun z => ?_))))⟩
      subst z
      rcases h3 with h3 | h3
      · omega
      · rw [e] at h3; exact absurd h3 (by decide)
    · subst em
      exact br_t rfl (t94 (Or.inl rfl))
end
section
variable {MS MP RM MD sc np nc : Nat} {fl rs : Int32} {pa sg po op aa bn : Nat → Nat} {par pmk bas cur fir cod adr sto stc img cel own sta cu pcc stp trc hei val stk bb pos : Nat → Int32} {k : Nat}
theorem ov_memory (H : ov_R MS MP RM MD sc np nc fl rs pa sg po op aa bn par pmk bas cur fir cod adr sto stc img cel own sta cu pcc stp trc hei val stk bb pos) (v1 v2 : Int32) : wpX_memory (fun r => wpY_memory (fun r' => r' = r ∧ i_Rel k (nI MS, nI MP, nI RM, nI MD, nI sc, nI np, nI nc, fl, rs, par, pmk, ov_f (ov_sz sg po nc), bas, cur, ov_f sg, fir, ov_f (ov_ln po nc), cod, adr, sto, stc, img, cel, own, sta, cu, pcc, stp, trc, hei, val, stk) (nI MS, nI MP, nI RM, nI MD, nI sc, nI np, nI nc, fl, ov_f pa, ov_f sg, ov_f po, ov_f op, ov_f aa, bb, val, sta, pos, stp, trc, hei, stk)) (nI MS, nI MP, nI RM, nI MD, nI sc, nI np, nI nc, fl, ov_f pa, ov_f sg, ov_f po, ov_f op, ov_f aa, bb, val, sta, pos, stp, trc, hei, stk) v1 v2) (nI MS, nI MP, nI RM, nI MD, nI sc, nI np, nI nc, fl, rs, par, pmk, ov_f (ov_sz sg po nc), bas, cur, ov_f sg, fir, ov_f (ov_ln po nc), cod, adr, sto, stc, img, cel, own, sta, cu, pcc, stp, trc, hei, val, stk) v1 v2 := by
  unfold wpX_memory wpY_memory
  rcases ov_ml fl v1 with h | ⟨h, m, hm, rfl⟩
  · exact ov_xdead h (br_t rfl (ov_ydead h (br_f (by decide) ⟨rfl, ov_in H⟩)))
  · obtain ⟨S, D⟩ := H.2 h
    have G := H.1.2.1
    have F := S.1
    have C := F.2.2.2.1
    have B := H.1.2.2.2.2.2.2
    have hRM := H.1.1.2.2.1
    have h12 := ov_g12 G
    have h8 := ov_g8 G
    have h128 := ov_g128 G
    obtain ⟨q, o, hh, a1, a2, a3, a4, a5, a6, a7, a8, a9⟩ := D.2.2 0 (by omega)
    have hln := ov_gln G q
    have hsq := ov_gs G a1
    have hbs := F.2.2.2.2 (sg q) hsq
    have epos : pos 0 >>> ((7 : Int32) &&& 31) = nI q := by
      rw [a5, ov_w7 (by omega)]; exact congrArg nI (by omega)
    have esq : ov_f sg (nI q).toNatClampNeg = nI (sg q) := ov_at (by omega)
    -- the reference's scan, at an address within
    have scan : ∀ a, a < 128 → (∃ p, 0 ≤ p ∧ p < np ∧ (m = 1 ∨ ov_on pa (sg q) (sg p) = true) ∧ ov_A pa sg po nc m p ≤ a ∧ a < ov_A pa sg po nc m p + ov_ln po nc p) →
        ∃ n65 : Nat, wY_memory_65 (fun r' => r' = cel (nI m * 64 + nI a).toNatClampNeg ∧ i_Rel k (nI MS, nI MP, nI RM, nI MD, nI sc, nI np, nI nc, fl, rs, par, pmk, ov_f (ov_sz sg po nc), bas, cur, ov_f sg, fir, ov_f (ov_ln po nc), cod, adr, sto, stc, img, cel, own, sta, cu, pcc, stp, trc, hei, val, stk) (nI MS, nI MP, nI RM, nI MD, nI sc, nI np, nI nc, fl, ov_f pa, ov_f sg, ov_f po, ov_f op, ov_f aa, bb, val, sta, pos, stp, trc, hei, stk)) (nI m) (nI a) (nI (sg q)) (nI MS) (nI MP) (nI RM) (nI MD) (nI sc) (nI np) (nI nc) fl (ov_f pa) (ov_f sg) (ov_f po) (ov_f op) (ov_f aa) bb val sta pos stp trc hei stk n65 0 := by
      intro a ha hp
      refine Exists.intro (np + 1) (ov_ymem G B C hm hsq ha (fun p hp hc i hi e => ⟨?_, ov_in H⟩) np 0 (np + 1) (by omega) (by omega) hp)
      rw [ov_m64, nI_clamp (by omega), e]
      refine (ov_cellw D G hm hp hi (fun z => ?_)).symm
      rcases hc with hc | hc
      · omega
      · exact D.1.1 (sg q) hsq (a9 rfl) _ hc
    have yw : vp_in (pos 0 >>> ((7 : Int32) &&& 31)) 12 := by rw [epos]; exact vp_in_nI (by omega) (by omega)
    have ey : ov_f sg (pos 0 >>> ((7 : Int32) &&& 31)).toNatClampNeg = nI (sg q) := by rw [epos]; exact esq
    refine ov_xlive h hm (br_f (by decide) ?_)
    rcases (by omega : m = 0 ∨ m = 1) with em | em
    · subst em
      refine br_t rfl ⟨by rw [a3]; exact vp_in_nI (by omega) (by omega), nm_r (e' := nI (sg q)) (by rw [a3]; exact esq) ⟨vp_in_nI (by omega) (by omega), vp_in_nI (by omega) (by omega), nm_r (e' := nI (ov_ba pa (ov_sz sg po nc) (sg q) + ov_sz sg po nc (sg q))) (by rw [ov_at (by omega), nI_clamp (by omega), S.2.1 (sg q) hsq, nI_add]) ?_⟩⟩
      have yy : ∀ {r : Int32}, wY_memory_48 (fun r' => r' = r ∧ i_Rel k (nI MS, nI MP, nI RM, nI MD, nI sc, nI np, nI nc, fl, rs, par, pmk, ov_f (ov_sz sg po nc), bas, cur, ov_f sg, fir, ov_f (ov_ln po nc), cod, adr, sto, stc, img, cel, own, sta, cu, pcc, stp, trc, hei, val, stk) (nI MS, nI MP, nI RM, nI MD, nI sc, nI np, nI nc, fl, ov_f pa, ov_f sg, ov_f po, ov_f op, ov_f aa, bb, val, sta, pos, stp, trc, hei, stk)) (nI 0) v2 (nI (sg q)) (nI (ov_ba pa (ov_sz sg po nc) (sg q) + ov_sz sg po nc (sg q))) (nI MS) (nI MP) (nI RM) (nI MD) (nI sc) (nI np) (nI nc) fl (ov_f pa) (ov_f sg) (ov_f po) (ov_f op) (ov_f aa) bb val sta pos stp trc hei stk → wpY_memory (fun r' => r' = r ∧ i_Rel k (nI MS, nI MP, nI RM, nI MD, nI sc, nI np, nI nc, fl, rs, par, pmk, ov_f (ov_sz sg po nc), bas, cur, ov_f sg, fir, ov_f (ov_ln po nc), cod, adr, sto, stc, img, cel, own, sta, cu, pcc, stp, trc, hei, val, stk) (nI MS, nI MP, nI RM, nI MD, nI sc, nI np, nI nc, fl, ov_f pa, ov_f sg, ov_f po, ov_f op, ov_f aa, bb, val, sta, pos, stp, trc, hei, stk)) (nI MS, nI MP, nI RM, nI MD, nI sc, nI np, nI nc, fl, ov_f pa, ov_f sg, ov_f po, ov_f op, ov_f aa, bb, val, sta, pos, stp, trc, hei, stk) (nI 0) v2 := by
        intro r hr
        unfold wpY_memory
        refine ov_ylive h (by omega) (br_t rfl ⟨yw, nm_r ey (br_f (by decide) (ov_yba G hsq rfl (ov_ysz G (by omega) rfl ?_)))⟩)
        rw [nI_add]; exact hr
      rcases ov_ix v2 (n := ov_ba pa (ov_sz sg po nc) (sg q) + ov_sz sg po nc (sg q)) (by omega) with h1 | ⟨h1, h2, h3⟩ | ⟨a, ha, rfl⟩
      · exact br_t h1 (yy (br_t h1 ⟨rfl, ov_in H⟩))
      · exact br_f h1 (br_f h3 (yy (br_f h1 (br_f h3 ⟨rfl, ov_in H⟩))))
      · have n1 : ¬ nI a < 0 := nI_pos (by omega)
        have n2 : nI a < nI (ov_ba pa (ov_sz sg po nc) (sg q) + ov_sz sg po nc (sg q)) := nI_lt ha (by omega)
        obtain ⟨p, p1, p2, p3, p4⟩ := ov_cov G (sg q) (sg q) (Nat.le_refl _) hsq ha
        exact br_f n1 (br_t n2 ⟨by rw [ov_m64]; exact vp_in_nI (by omega) (by omega), yy (br_f n1 (br_t n2 (scan a (by omega) ⟨p, by omega, p1, Or.inr p2, p3, p4⟩)))⟩)
    · subst em
      refine br_f (by decide) ?_
      have yy : ∀ {r : Int32}, wY_memory_48 (fun r' => r' = r ∧ i_Rel k (nI MS, nI MP, nI RM, nI MD, nI sc, nI np, nI nc, fl, rs, par, pmk, ov_f (ov_sz sg po nc), bas, cur, ov_f sg, fir, ov_f (ov_ln po nc), cod, adr, sto, stc, img, cel, own, sta, cu, pcc, stp, trc, hei, val, stk) (nI MS, nI MP, nI RM, nI MD, nI sc, nI np, nI nc, fl, ov_f pa, ov_f sg, ov_f po, ov_f op, ov_f aa, bb, val, sta, pos, stp, trc, hei, stk)) (nI 1) v2 (nI (sg q)) (nI nc) (nI MS) (nI MP) (nI RM) (nI MD) (nI sc) (nI np) (nI nc) fl (ov_f pa) (ov_f sg) (ov_f po) (ov_f op) (ov_f aa) bb val sta pos stp trc hei stk → wpY_memory (fun r' => r' = r ∧ i_Rel k (nI MS, nI MP, nI RM, nI MD, nI sc, nI np, nI nc, fl, rs, par, pmk, ov_f (ov_sz sg po nc), bas, cur, ov_f sg, fir, ov_f (ov_ln po nc), cod, adr, sto, stc, img, cel, own, sta, cu, pcc, stp, trc, hei, val, stk) (nI MS, nI MP, nI RM, nI MD, nI sc, nI np, nI nc, fl, ov_f pa, ov_f sg, ov_f po, ov_f op, ov_f aa, bb, val, sta, pos, stp, trc, hei, stk)) (nI MS, nI MP, nI RM, nI MD, nI sc, nI np, nI nc, fl, ov_f pa, ov_f sg, ov_f po, ov_f op, ov_f aa, bb, val, sta, pos, stp, trc, hei, stk) (nI 1) v2 := by
        intro r hr
        unfold wpY_memory
        exact ov_ylive h (by omega) (br_t rfl ⟨yw, nm_r ey (br_t rfl hr)⟩)
      rcases ov_ix v2 (n := nc) (by omega) with h1 | ⟨h1, h2, h3⟩ | ⟨a, ha, rfl⟩
      · exact br_t h1 (yy (br_t h1 ⟨rfl, ov_in H⟩))
      · exact br_f h1 (br_f h3 (yy (br_f h1 (br_f h3 ⟨rfl, ov_in H⟩))))
      · have n1 : ¬ nI a < 0 := nI_pos (by omega)
        have n2 : nI a < nI nc := nI_lt ha (by omega)
        have hpo := ov_po_of (ov_gM G) ha
        exact br_f n1 (br_t n2 ⟨by rw [ov_m64]; exact vp_in_nI (by omega) (by omega), yy (br_f n1 (br_t n2 (scan a (by omega) ⟨po a, by omega, ov_gp G ha, Or.inl rfl, by rw [ov_A1]; exact hpo.1, by rw [ov_A1]; exact hpo.2⟩)))⟩)
end
end
section
/-! the constructors, and what is owed -/
def ov_CL (x : Int32) (a b c : Nat) : Prop := (nI a ≤ x ∧ x ≤ nI b ∧ x = nI c) ∨ (nI a ≤ x ∧ ¬ x ≤ nI b ∧ c = b) ∨ (¬ nI a ≤ x ∧ c = a)
theorem ov_cl (x : Int32) {a b : Nat} (hab : a ≤ b) (hb : b < 2 ^ 31) : ∃ c, a ≤ c ∧ c ≤ b ∧ ov_CL x a b c := by
  by_cases h1 : nI a ≤ x
  · by_cases h2 : x ≤ nI b
    · have h0 : ¬ x < 0 := by
        rw [Int32.lt_iff_toInt_lt]
        rw [Int32.le_iff_toInt_le, nI_toInt (by omega)] at h1
        have : (0 : Int32).toInt = 0 := by decide
        omega
      obtain ⟨j, hj, rfl⟩ := nI_of h0
      have q1 := (nI_leI (by omega) hj).mp h1
      have q2 := (nI_leI hj hb).mp h2
      exact ⟨j, q1, q2, Or.inl ⟨h1, h2, rfl⟩⟩
    · exact ⟨b, hab, Nat.le_refl _, Or.inr (Or.inl ⟨h1, h2, rfl⟩)⟩
  · exact ⟨a, Nat.le_refl _, hab, Or.inr (Or.inr ⟨h1, rfl⟩)⟩
section
variable {f_maxSegments f_maxProcedures f_room f_maxDepth f_segmentCount f_procedureCount f_codeCount f_linked f_resident : Int32} {a_parentOf a_pathMask a_sizeOf a_baseOf a_cursor a_segmentOf a_first a_lengthOf a_code a_address a_stubOf a_stubCallee a_image a_cell a_owner a_state a_current a_pc a_stepCount a_traceOf a_height a_values a_stack : Nat → Int32} {x : Int32} {a b c : Nat} {post : Int32 → Prop}
theorem ov_xcl (h : ov_CL x a b c) (hp : post (nI c)) : wpX_clamp post (f_maxSegments, f_maxProcedures, f_room, f_maxDepth, f_segmentCount, f_procedureCount, f_codeCount, f_linked, f_resident, a_parentOf, a_pathMask, a_sizeOf, a_baseOf, a_cursor, a_segmentOf, a_first, a_lengthOf, a_code, a_address, a_stubOf, a_stubCallee, a_image, a_cell, a_owner, a_state, a_current, a_pc, a_stepCount, a_traceOf, a_height, a_values, a_stack) x (nI a) (nI b) := by
  rcases h with ⟨h1, h2, rfl⟩ | ⟨h1, h2, rfl⟩ | ⟨h1, rfl⟩
  · exact br_t h1 (br_t h2 hp)
  · exact br_t h1 (br_f h2 hp)
  · exact br_f h1 hp
end
section
variable {f_maxSegments f_maxProcedures f_maxMemory f_maxDepth f_segs f_procs f_count f_linked : Int32} {a_parent a_segOf a_procOf a_ops a_as a_bs a_cells a_stat a_pos a_stepCount a_traces a_held a_stack : Nat → Int32} {x : Int32} {a b c : Nat} {post : Int32 → Prop}
theorem ov_ycl (h : ov_CL x a b c) (hp : post (nI c)) : wpY_clamp post (f_maxSegments, f_maxProcedures, f_maxMemory, f_maxDepth, f_segs, f_procs, f_count, f_linked, a_parent, a_segOf, a_procOf, a_ops, a_as, a_bs, a_cells, a_stat, a_pos, a_stepCount, a_traces, a_held, a_stack) x (nI a) (nI b) := by
  rcases h with ⟨h1, h2, rfl⟩ | ⟨h1, h2, rfl⟩ | ⟨h1, rfl⟩
  · exact br_t h1 (br_t h2 hp)
  · exact br_t h1 (br_f h2 hp)
  · exact br_f h1 hp
end
theorem ov_al0 {MS MP RM MD : Nat} (h1 : MS ≤ 8) (h2 : MP ≤ 12) (h3 : RM ≤ 64) (h4 : MD ≤ 16) :
    ov_AL MS MP RM MD 1 0 0 (fun _ => 0) (fun _ => 0) (fun _ => 0) (fun _ => 0) (fun _ => 0) (fun _ => 0) (upd (fun _ => 0) 0 (-1)) (upd (fun _ => 0) 0 1) (fun _ => 0) (fun _ => 0) (fun _ => 0) := by
  refine ⟨⟨h1, h2, h3, h4⟩, ⟨⟨by omega, by omega, by omega, by omega⟩, fun s h0 hs => by omega, fun p hp => absurd hp (Nat.not_lt_zero p), fun k hk => absurd hk (Nat.not_lt_zero k), fun j k _ hk => absurd hk (Nat.not_lt_zero k), fun k hk => absurd hk (Nat.not_lt_zero k)⟩, ⟨rfl, fun s h0 hs => by omega⟩, fun s hs t ht => ?_, fun p hp => absurd hp (Nat.not_lt_zero p), fun k hk => absurd hk (Nat.not_lt_zero k), fun k hk => absurd hk (Nat.not_lt_zero k)⟩
  have e : s = 0 := by omega
  subst e
  rw [pk_us, ov_b1 t (by omega)]
  show _ = (decide (0 = t) || (decide (0 < 0) && _))
  rw [decide_eq_false (p := 0 < 0) (by omega), Bool.false_and, Bool.or_false]
  exact decide_eq_decide.mpr ⟨fun z => z.symm, fun z => z.symm⟩
theorem i_up {k : Nat} {u : SX} {v : SY} (h : i_Rel k u v) : i_Rel (k + 4) u v := h
theorem i_vc0 (k0 : Int32) (k1 : Int32) (k2 : Int32) (k3 : Int32) : wpX_init (fun u => wpY_init (fun v => i_Rel 4 u v) k0 k1 k2 k3) k0 k1 k2 k3 := by
  obtain ⟨c0, _, g0, h0⟩ := ov_cl k0 (a := 1) (b := 8) (by omega) (by omega)
  obtain ⟨c1, _, g1, h1⟩ := ov_cl k1 (a := 1) (b := 12) (by omega) (by omega)
  obtain ⟨c2, _, g2, h2⟩ := ov_cl k2 (a := 4) (b := 64) (by omega) (by omega)
  obtain ⟨c3, _, g3, h3⟩ := ov_cl k3 (a := 1) (b := 16) (by omega) (by omega)
  unfold wpX_init
  refine ov_xcl h0 (ov_xcl h1 (ov_xcl h2 (ov_xcl h3 (nm_e (nm_e ?_)))))
  unfold wpY_init
  refine ov_ycl h0 (ov_ycl h1 (ov_ycl h2 (ov_ycl h3 ?_)))
  exact ov_in0 (sc := 1) (np := 0) (nc := 0) (pa := fun _ => 0) (sg := fun _ => 0) (po := fun _ => 0) (op := fun _ => 0) (aa := fun _ => 0) (bn := fun _ => 0) (ov_al0 g0 g1 g2 g3)
theorem i_vc_addSegment {k : Nat} {u : SX} {v : SY} (I : i_Rel k u v) (hk : k + 4 ≤ 2052) (v1 : Int32) : wpX_addSegment (fun r u' => wpY_addSegment (fun r' v' => r' = r ∧ i_Rel (k + 4) u' v') v v1) u v1 :=
  ov_el (P := fun u v => wpX_addSegment (fun r u' => wpY_addSegment (fun r' v' => r' = r ∧ i_Rel (k + 4) u' v') v v1) u v1) I (fun _ _ _ _ _ _ _ _ _ _ _ _ _ _ _ _ _ _ _ _ _ _ _ _ _ _ _ _ _ _ _ _ _ _ _ _ _ H => ov_addSegment H v1)
theorem i_vc_addProcedure {k : Nat} {u : SX} {v : SY} (I : i_Rel k u v) (hk : k + 4 ≤ 2052) (v1 : Int32) : wpX_addProcedure (fun r u' => wpY_addProcedure (fun r' v' => r' = r ∧ i_Rel (k + 4) u' v') v v1) u v1 :=
  ov_el (P := fun u v => wpX_addProcedure (fun r u' => wpY_addProcedure (fun r' v' => r' = r ∧ i_Rel (k + 4) u' v') v v1) u v1) I (fun _ _ _ _ _ _ _ _ _ _ _ _ _ _ _ _ _ _ _ _ _ _ _ _ _ _ _ _ _ _ _ _ _ _ _ _ _ H => ov_addProcedure H v1)
theorem i_vc_emit {k : Nat} {u : SX} {v : SY} (I : i_Rel k u v) (hk : k + 4 ≤ 2052) (v1 : Int32) (v2 : Int32) (v3 : Int32) : wpX_emit (fun r u' => wpY_emit (fun r' v' => r' = r ∧ i_Rel (k + 4) u' v') v v1 v2 v3) u v1 v2 v3 :=
  ov_el (P := fun u v => wpX_emit (fun r u' => wpY_emit (fun r' v' => r' = r ∧ i_Rel (k + 4) u' v') v v1 v2 v3) u v1 v2 v3) I (fun _ _ _ _ _ _ _ _ _ _ _ _ _ _ _ _ _ _ _ _ _ _ _ _ _ _ _ _ _ _ _ _ _ _ _ _ _ H => ov_emit H v1 v2 v3)
theorem i_vc_assign {k : Nat} {u : SX} {v : SY} (I : i_Rel k u v) (hk : k + 4 ≤ 2052) (v1 : Int32) (v2 : Int32) : wpX_assign (fun r u' => wpY_assign (fun r' v' => r' = r ∧ i_Rel (k + 4) u' v') v v1 v2) u v1 v2 :=
  ov_el (P := fun u v => wpX_assign (fun r u' => wpY_assign (fun r' v' => r' = r ∧ i_Rel (k + 4) u' v') v v1 v2) u v1 v2) I (fun _ _ _ _ _ _ _ _ _ _ _ _ _ _ _ _ _ _ _ _ _ _ _ _ _ _ _ _ _ _ _ _ _ _ _ _ _ H => ov_assign H v1 v2)
theorem i_vc_link {k : Nat} {u : SX} {v : SY} (I : i_Rel k u v) (hk : k + 4 ≤ 2052) : wpX_link (fun r u' => wpY_link (fun r' v' => r' = r ∧ i_Rel (k + 4) u' v') v) u :=
  ov_el (P := fun u v => wpX_link (fun r u' => wpY_link (fun r' v' => r' = r ∧ i_Rel (k + 4) u' v') v) u) I (fun _ _ _ _ _ _ _ _ _ _ _ _ _ _ _ _ _ _ _ _ _ _ _ _ _ _ _ _ _ _ _ _ _ _ _ _ _ H => ov_link H)
theorem i_vc_run {k : Nat} {u : SX} {v : SY} (I : i_Rel k u v) (hk : k + 4 ≤ 2052) (v1 : Int32) (v2 : Int32) : wpX_run (fun r u' => wpY_run (fun r' v' => r' = r ∧ i_Rel (k + 4) u' v') v v1 v2) u v1 v2 :=
  ov_el (P := fun u v => wpX_run (fun r u' => wpY_run (fun r' v' => r' = r ∧ i_Rel (k + 4) u' v') v v1 v2) u v1 v2) I (fun _ _ _ _ _ _ _ _ _ _ _ _ _ _ _ _ _ _ _ _ _ _ _ _ _ _ _ _ _ _ _ _ _ _ _ _ _ H => ov_run H v1 v2)
theorem i_vc_status {k : Nat} {u : SX} {v : SY} (I : i_Rel k u v) (hk : k + 4 ≤ 2052) (v1 : Int32) : wpX_status (fun r => wpY_status (fun r' => r' = r ∧ i_Rel (k + 4) u v) v v1) u v1 :=
  ov_el (P := fun u v => wpX_status (fun r => wpY_status (fun r' => r' = r ∧ i_Rel (k + 4) u v) v v1) u v1) I (fun _ _ _ _ _ _ _ _ _ _ _ _ _ _ _ _ _ _ _ _ _ _ _ _ _ _ _ _ _ _ _ _ _ _ _ _ _ H => ov_status H v1)
theorem i_vc_position {k : Nat} {u : SX} {v : SY} (I : i_Rel k u v) (hk : k + 4 ≤ 2052) (v1 : Int32) : wpX_position (fun r => wpY_position (fun r' => r' = r ∧ i_Rel (k + 4) u v) v v1) u v1 :=
  ov_el (P := fun u v => wpX_position (fun r => wpY_position (fun r' => r' = r ∧ i_Rel (k + 4) u v) v v1) u v1) I (fun _ _ _ _ _ _ _ _ _ _ _ _ _ _ _ _ _ _ _ _ _ _ _ _ _ _ _ _ _ _ _ _ _ _ _ _ _ H => ov_position H v1)
theorem i_vc_caller {k : Nat} {u : SX} {v : SY} (I : i_Rel k u v) (hk : k + 4 ≤ 2052) (v1 : Int32) (v2 : Int32) : wpX_caller (fun r => wpY_caller (fun r' => r' = r ∧ i_Rel (k + 4) u v) v v1 v2) u v1 v2 :=
  ov_el (P := fun u v => wpX_caller (fun r => wpY_caller (fun r' => r' = r ∧ i_Rel (k + 4) u v) v v1 v2) u v1 v2) I (fun _ _ _ _ _ _ _ _ _ _ _ _ _ _ _ _ _ _ _ _ _ _ _ _ _ _ _ _ _ _ _ _ _ _ _ _ _ H => ov_caller H v1 v2)
theorem i_vc_value {k : Nat} {u : SX} {v : SY} (I : i_Rel k u v) (hk : k + 4 ≤ 2052) (v1 : Int32) (v2 : Int32) : wpX_value (fun r => wpY_value (fun r' => r' = r ∧ i_Rel (k + 4) u v) v v1 v2) u v1 v2 :=
  ov_el (P := fun u v => wpX_value (fun r => wpY_value (fun r' => r' = r ∧ i_Rel (k + 4) u v) v v1 v2) u v1 v2) I (fun _ _ _ _ _ _ _ _ _ _ _ _ _ _ _ _ _ _ _ _ _ _ _ _ _ _ _ _ _ _ _ _ _ _ _ _ _ H => ov_value H v1 v2)
theorem i_vc_steps {k : Nat} {u : SX} {v : SY} (I : i_Rel k u v) (hk : k + 4 ≤ 2052) (v1 : Int32) : wpX_steps (fun r => wpY_steps (fun r' => r' = r ∧ i_Rel (k + 4) u v) v v1) u v1 :=
  ov_el (P := fun u v => wpX_steps (fun r => wpY_steps (fun r' => r' = r ∧ i_Rel (k + 4) u v) v v1) u v1) I (fun _ _ _ _ _ _ _ _ _ _ _ _ _ _ _ _ _ _ _ _ _ _ _ _ _ _ _ _ _ _ _ _ _ _ _ _ _ H => ov_steps H v1)
theorem i_vc_trace {k : Nat} {u : SX} {v : SY} (I : i_Rel k u v) (hk : k + 4 ≤ 2052) (v1 : Int32) : wpX_trace (fun r => wpY_trace (fun r' => r' = r ∧ i_Rel (k + 4) u v) v v1) u v1 :=
  ov_el (P := fun u v => wpX_trace (fun r => wpY_trace (fun r' => r' = r ∧ i_Rel (k + 4) u v) v v1) u v1) I (fun _ _ _ _ _ _ _ _ _ _ _ _ _ _ _ _ _ _ _ _ _ _ _ _ _ _ _ _ _ _ _ _ _ _ _ _ _ H => ov_trace H v1)
theorem i_vc_memory {k : Nat} {u : SX} {v : SY} (I : i_Rel k u v) (hk : k + 4 ≤ 2052) (v1 : Int32) (v2 : Int32) : wpX_memory (fun r => wpY_memory (fun r' => r' = r ∧ i_Rel (k + 4) u v) v v1 v2) u v1 v2 :=
  ov_el (P := fun u v => wpX_memory (fun r => wpY_memory (fun r' => r' = r ∧ i_Rel (k + 4) u v) v v1 v2) u v1 v2) I (fun _ _ _ _ _ _ _ _ _ _ _ _ _ _ _ _ _ _ _ _ _ _ _ _ _ _ _ _ _ _ _ _ _ _ _ _ _ H => ov_memory H v1 v2)
theorem i_vc_procedureMap {k : Nat} {u : SX} {v : SY} (I : i_Rel k u v) (hk : k + 4 ≤ 2052) (v1 : Int32) (v2 : Int32) : wpX_procedureMap (fun r => wpY_procedureMap (fun r' => r' = r ∧ i_Rel (k + 4) u v) v v1 v2) u v1 v2 :=
  ov_el (P := fun u v => wpX_procedureMap (fun r => wpY_procedureMap (fun r' => r' = r ∧ i_Rel (k + 4) u v) v v1 v2) u v1 v2) I (fun _ _ _ _ _ _ _ _ _ _ _ _ _ _ _ _ _ _ _ _ _ _ _ _ _ _ _ _ _ _ _ _ _ _ _ _ _ H => ov_procedureMap H v1 v2)
theorem i_vc_segmentMap {k : Nat} {u : SX} {v : SY} (I : i_Rel k u v) (hk : k + 4 ≤ 2052) (v1 : Int32) (v2 : Int32) : wpX_segmentMap (fun r => wpY_segmentMap (fun r' => r' = r ∧ i_Rel (k + 4) u v) v v1 v2) u v1 v2 :=
  ov_el (P := fun u v => wpX_segmentMap (fun r => wpY_segmentMap (fun r' => r' = r ∧ i_Rel (k + 4) u v) v v1 v2) u v1 v2) I (fun _ _ _ _ _ _ _ _ _ _ _ _ _ _ _ _ _ _ _ _ _ _ _ _ _ _ _ _ _ _ _ _ _ _ _ _ _ H => ov_segmentMap H v1 v2)
theorem i_vc_source {k : Nat} {u : SX} {v : SY} (I : i_Rel k u v) (hk : k + 4 ≤ 2052) (v1 : Int32) (v2 : Int32) : wpX_source (fun r => wpY_source (fun r' => r' = r ∧ i_Rel (k + 4) u v) v v1 v2) u v1 v2 :=
  ov_el (P := fun u v => wpX_source (fun r => wpY_source (fun r' => r' = r ∧ i_Rel (k + 4) u v) v v1 v2) u v1 v2) I (fun _ _ _ _ _ _ _ _ _ _ _ _ _ _ _ _ _ _ _ _ _ _ _ _ _ _ _ _ _ _ _ _ _ _ _ _ _ H => ov_source H v1 v2)
end
