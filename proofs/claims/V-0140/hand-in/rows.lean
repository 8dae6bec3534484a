section
theorem pk_us {f : Nat → Int32} {k : Nat} {x : Int32} : upd f k x k = x := if_pos rfl
theorem pk_un {f : Nat → Int32} {k j : Nat} {x : Int32} (h : j ≠ k) : upd f k x j = f j := if_neg h
theorem pk_sub {a b : Nat} (h : b ≤ a) : nI a - nI b = nI (a - b) := by
  obtain ⟨c, rfl⟩ : ∃ c, a = c + b := ⟨a - b, by omega⟩
  rw [← nI_add, Int32.add_sub_cancel, Nat.add_sub_cancel]
theorem pk_m1 (n : Nat) : nI (n + 1) + (-1) = nI n := by
  rw [← nI_1, Int32.add_assoc, show (1 : Int32) + (-1) = 0 from rfl, Int32.add_zero]
theorem pk_mul (a b : Nat) : nI a * nI b = nI (a * b) := (Int32.ofNat_mul a b).symm
theorem pk_div {a d : Nat} (ha : a < 2 ^ 31) (h0 : 0 < d) (hd : d < 2 ^ 31) : nI a / nI d = nI (a / d) := by
  apply Int32.toInt_inj.mp
  rw [lg_idiv_nonneg (by rw [nI_toInt ha]; omega) (by rw [nI_toInt hd]; omega), nI_toInt ha, nI_toInt hd, nI_toInt (Nat.lt_of_le_of_lt (Nat.div_le_self a d) ha)]
  first | rfl | exact (Int.natCast_ediv _ _).symm
theorem pk_rem {a d : Nat} (ha : a < 2 ^ 31) (h0 : 0 < d) (hd : d < 2 ^ 31) : nI a - nI a / nI d * nI d = nI (a % d) := by
  rw [pk_div ha h0 hd, pk_mul, pk_sub (Nat.div_mul_le_self a d)]
  exact congrArg nI (by have := Nat.div_add_mod' a d; omega)
theorem pk_sub_toInt {a b : Nat} (ha : a < 2 ^ 30) (hb : b < 2 ^ 30) : (nI a - nI b).toInt = (a : Int) - b := by
  rw [Int32.toInt_sub, nI_toInt (by omega), nI_toInt (by omega)]
  exact Int.bmod_eq_of_le (by omega) (by omega)
theorem pk_sneg {a b : Nat} (hb : b < 2 ^ 30) (h : a < b) : nI a - nI b < 0 := by
  rw [Int32.lt_iff_toInt_lt, pk_sub_toInt (by omega) hb, show (0 : Int32).toInt = 0 from by decide]
  omega
theorem pk_ix (x : Int32) {n : Nat} (hn : n < 2 ^ 31) : x < 0 ∨ nI n ≤ x ∨ ∃ j : Nat, j < n ∧ x = nI j := by
  by_cases h : x < 0
  · exact Or.inl h
  · obtain ⟨j, hj, rfl⟩ := nI_of h
    by_cases h2 : j < n
    · exact Or.inr (Or.inr ⟨j, h2, rfl⟩)
    · exact Or.inr (Or.inl (nI_le (by omega) hj))
theorem pk_le {x y : Int32} {A B : Prop} (a b : Nat) (f : a ≤ b → A) (g : b < a → B) (hx : x = nI a := by rfl) (hy : y = nI b := by rfl) (ha : a < 2 ^ 31 := by omega) (hb : b < 2 ^ 31 := by omega) : (x ≤ y → A) ∧ (¬ x ≤ y → B) := by
  subst hx hy
  rw [nI_leI ha hb]
  exact ⟨f, fun z => g (by omega)⟩
theorem pk_lt {x y : Int32} {A B : Prop} (a b : Nat) (f : a < b → A) (g : b ≤ a → B) (hx : x = nI a := by rfl) (hy : y = nI b := by rfl) (ha : a < 2 ^ 31 := by omega) (hb : b < 2 ^ 31 := by omega) : (x < y → A) ∧ (¬ x < y → B) := by
  subst hx hy
  rw [nI_ltI ha hb]
  exact ⟨f, fun z => g (by omega)⟩
theorem pk_eq {x y : Int32} {A B : Prop} (a b : Nat) (f : a = b → A) (g : a ≠ b → B) (hx : x = nI a := by rfl) (hy : y = nI b := by rfl) (ha : a < 2 ^ 31 := by omega) (hb : b < 2 ^ 31 := by omega) : (x = y → A) ∧ (¬ x = y → B) := by
  subst hx hy
  rw [nI_eq ha hb]
  exact ⟨f, g⟩
theorem pk_in {x : Int32} (n N : Nat) (h : n < N) (hx : x = nI n := by rfl) (hN : N < 2 ^ 31 := by omega) : vp_in x N := by
  subst hx
  exact vp_in_nI h hN
theorem pk_cl {x : Int32} (n : Nat) (hx : x = nI n := by rfl) (h : n < 2 ^ 31 := by omega) : x.toNatClampNeg = n := by
  subst hx
  exact nI_clamp h
theorem pk_tn {n : Nat} (h : n < 2 ^ 32) : (nI n).toBitVec.toNat = n := Nat.mod_eq_of_lt h
theorem pk_and (x : Int32) {m : Int32} (k : Nat) (hm : m.toBitVec.toNat = 2 ^ k - 1) : x &&& m = nI (x.toBitVec.toNat % 2 ^ k) := by
  apply Int32.toBitVec_inj.mp
  apply BitVec.eq_of_toNat_eq
  rw [Int32.toBitVec_and, BitVec.toNat_and, hm, Nat.and_two_pow_sub_one_eq_mod]
  show _ = (BitVec.ofNat 32 _).toNat
  rw [BitVec.toNat_ofNat]
  exact (Nat.mod_eq_of_lt (Nat.lt_of_le_of_lt (Nat.mod_le _ _) x.toBitVec.isLt)).symm
theorem pk_andN {n : Nat} (h : n < 2 ^ 32) {m : Int32} (k : Nat) (hm : m.toBitVec.toNat = 2 ^ k - 1) : nI n &&& m = nI (n % 2 ^ k) := by
  rw [pk_and _ k hm, pk_tn h]
theorem pk_andE (x : Int32) {m : Int32} (k : Nat) (hm : m.toBitVec.toNat = 2 ^ k - 1) : ∃ j : Nat, j < 2 ^ k ∧ x &&& m = nI j := ⟨_, Nat.mod_lt _ (Nat.two_pow_pos k), pk_and x k hm⟩
theorem pk_andIn (x : Int32) {m : Int32} (k : Nat) (hm : m.toBitVec.toNat = 2 ^ k - 1) (hk : k ≤ 30) : vp_in (x &&& m) (2 ^ k) := by
  obtain ⟨j, hj, e⟩ := pk_andE x k hm
  rw [e]
  exact vp_in_nI hj (Nat.lt_of_le_of_lt (Nat.pow_le_pow_right (by decide) hk) (by decide))
theorem pk_shl (a s : Int32) (k : Nat) (hs : (s.toBitVec.smod 32).toNat = k) : (a <<< s).toBitVec.toNat = a.toBitVec.toNat * 2 ^ k % 2 ^ 32 := by
  show (a.toBitVec <<< (s.toBitVec.smod 32).toNat).toNat = _
  rw [hs, BitVec.toNat_shiftLeft, Nat.shiftLeft_eq]
theorem pk_shlN {n : Nat} (s : Int32) (k : Nat) (hs : (s.toBitVec.smod 32).toNat = k) (h : n * 2 ^ k < 2 ^ 32) : nI n <<< s = nI (n * 2 ^ k) := by
  apply Int32.toBitVec_inj.mp
  apply BitVec.eq_of_toNat_eq
  have hn : n < 2 ^ 32 := Nat.lt_of_le_of_lt (Nat.le_mul_of_pos_right n (Nat.two_pow_pos k)) h
  rw [pk_shl _ _ k hs, pk_tn hn, pk_tn h, Nat.mod_eq_of_lt h]
theorem pk_shr (a s : Int32) (k : Nat) (hs : (s.toBitVec.smod 32).toNat = k) : (a >>> s).toInt = a.toInt >>> k := by
  show (a.toBitVec.sshiftRight (s.toBitVec.smod 32).toNat).toInt = _
  rw [hs, BitVec.toInt_sshiftRight]
  rfl
theorem pk_shrN {n : Nat} (h : n < 2 ^ 31) (s : Int32) (k : Nat) (hs : (s.toBitVec.smod 32).toNat = k) : nI n >>> s = nI (n / 2 ^ k) := by
  apply Int32.toInt_inj.mp
  have h2 : n / 2 ^ k ≤ n := Nat.div_le_self _ _
  rw [pk_shr _ _ k hs, nI_toInt h, nI_toInt (by omega), Int.shiftRight_eq_div_pow]
  rfl
/-! ===== Int32 by its bits: bt x i ===== -/
def bt (x : Int32) (i : Nat) : Bool := x.toBitVec.getLsbD i
theorem b_ext {x y : Int32} (h : ∀ i, i < 32 → bt x i = bt y i) : x = y := Int32.toBitVec_inj.mp (BitVec.eq_of_getLsbD_eq (fun i hi => h i hi))
theorem b_or (x y : Int32) (i : Nat) : bt (x ||| y) i = (bt x i || bt y i) := by unfold bt; rw [Int32.toBitVec_or, BitVec.getLsbD_or]
theorem b_and (x y : Int32) (i : Nat) : bt (x &&& y) i = (bt x i && bt y i) := by unfold bt; rw [Int32.toBitVec_and, BitVec.getLsbD_and]
theorem b_xor (x y : Int32) (i : Nat) : bt (x ^^^ y) i = (bt x i ^^ bt y i) := by unfold bt; rw [Int32.toBitVec_xor, BitVec.getLsbD_xor]
theorem b_big {x : Int32} {i : Nat} (h : 32 ≤ i) : bt x i = false := BitVec.getLsbD_of_ge _ _ h
theorem b_255 (i : Nat) : bt 255 i = decide (i < 8) := by
  rcases Nat.lt_or_ge i 32 with h | h
  · exact (by decide +kernel : ∀ i, i < 32 → bt 255 i = decide (i < 8)) i h
  · rw [b_big h, decide_eq_false (by omega)]
theorem b_65535 (i : Nat) : bt 65535 i = decide (i < 16) := by
  rcases Nat.lt_or_ge i 32 with h | h
  · exact (by decide +kernel : ∀ i, i < 32 → bt 65535 i = decide (i < 16)) i h
  · rw [b_big h, decide_eq_false (by omega)]
theorem b_m1 : ∀ i, i < 32 → bt (-1) i = true := by decide +kernel
theorem b_0 (i : Nat) : bt 0 i = false := BitVec.getLsbD_zero
theorem s_l : ∀ n, n < 32 → ((nI n &&& 31).toBitVec.smod 32).toNat = n := by decide +kernel
theorem s_u : ∀ n, n < 32 → (((nI n).toUInt32 &&& Int32.toUInt32 31).toBitVec % 32).toNat = n := by decide +kernel
theorem b_shl (n : Nat) (hn : n < 32) (x : Int32) {i : Nat} (hi : i < 32) : bt (x <<< (nI n &&& 31)) i = (decide (n ≤ i) && bt x (i - n)) := by
  unfold bt
  rw [Int32.toBitVec_shiftLeft]
  show (x.toBitVec <<< ((nI n &&& 31).toBitVec.smod 32).toNat).getLsbD i = _
  rw [s_l n hn, BitVec.getLsbD_shiftLeft]
  rcases Nat.lt_or_ge i n with h | h
  · simp [h, Nat.not_le.mpr h]
  · simp [hi, h, Nat.not_lt.mpr h]
theorem b_ushr (n : Nat) (hn : n < 32) (x : Int32) (i : Nat) : bt ((x.toUInt32 >>> ((nI n).toUInt32 &&& Int32.toUInt32 31)).toInt32) i = bt x (n + i) := by
  show (x.toUInt32 >>> ((nI n).toUInt32 &&& Int32.toUInt32 31)).toBitVec.getLsbD i = x.toUInt32.toBitVec.getLsbD (n + i)
  rw [UInt32.toBitVec_shiftRight]
  show (x.toUInt32.toBitVec >>> (((nI n).toUInt32 &&& Int32.toUInt32 31).toBitVec % 32).toNat).getLsbD i = _
  rw [s_u n hn, BitVec.getLsbD_ushiftRight]
theorem b_sshr (n : Nat) (hn : n < 32) (x : Int32) {i : Nat} (hi : i < 32) : bt (x >>> (nI n &&& 31)) i = if n + i < 32 then bt x (n + i) else bt x 31 := by
  unfold bt
  rw [Int32.toBitVec_shiftRight]
  show (x.toBitVec.sshiftRight ((nI n &&& 31).toBitVec.smod 32).toNat).getLsbD i = _
  rw [s_l n hn, BitVec.getLsbD_sshiftRight, BitVec.msb_eq_getLsbD_last]
  simp [hi]
theorem ek_if {c d A B : Prop} (e : c ↔ d) (f : d → A) (g : ¬ d → B) : (c → A) ∧ (¬ c → B) :=
  ⟨fun z => f (e.mp z), fun z => g (fun y => z (e.mpr y))⟩
theorem ek_v {α : Sort _} {P : α → Prop} {a b : α} (e : a = b) (h : P b) : P a := e ▸ h
end
section
/-! ===== boxes by their bits ===== -/
theorem qs_5 (p : Nat) : (5 : Int32) * nI p = nI (p * 5) := (pk_mul 5 p).trans (congrArg nI (Nat.mul_comm 5 p))
theorem qs_m5 (p : Nat) : nI p * (5 : Int32) = nI (p * 5) := pk_mul p 5
theorem qs_m7 (p : Nat) : nI p * (7 : Int32) = nI (p * 7) := pk_mul p 7
theorem qs_m8 (p : Nat) : nI p * (8 : Int32) = nI (p * 8) := pk_mul p 8
theorem qs_5v (p v : Nat) : (5 : Int32) * nI p + nI v = nI (p * 5 + v) := by rw [qs_5, nI_add]
theorem qs_5y (p v : Nat) : nI p * (5 : Int32) + nI v = nI (p * 5 + v) := by rw [qs_m5, nI_add]
theorem qs_7y (p v : Nat) : nI p * (7 : Int32) + nI v = nI (p * 7 + v) := by rw [qs_m7, nI_add]
theorem qs_8y (p v : Nat) : nI p * (8 : Int32) + nI v = nI (p * 8 + v) := by rw [qs_m8, nI_add]
def qs_g (p : Nat) : Int32 := (31 : Int32) <<< (nI (p * 5) &&& 31)
def qs_b (p v : Nat) : Int32 := (1 : Int32) <<< (nI (p * 5 + v) &&& 31)
theorem qs_gb : ∀ p, p < 6 → ∀ i, i < 32 → bt (qs_g p) i = decide (p * 5 ≤ i ∧ i < p * 5 + 5) := by decide +kernel
theorem qs_1b : ∀ k, k < 32 → ∀ i, i < 32 → bt ((1 : Int32) <<< (nI k &&& 31)) i = decide (i = k) := by decide +kernel
theorem qs_bb {p v i : Nat} (h : p * 5 + v < 32) (hi : i < 32) : bt (qs_b p v) i = decide (i = p * 5 + v) := qs_1b _ h i hi
theorem qs_gt {p i : Nat} (hp : p < 6) (hi : i < 32) : bt (qs_g p) i = true ↔ p * 5 ≤ i ∧ i < p * 5 + 5 := by
  rw [qs_gb p hp i hi]; exact decide_eq_true_iff
theorem qs_nt (x : Int32) {i : Nat} (hi : i < 32) : bt (x ^^^ (-1)) i = !bt x i := by
  rw [b_xor, b_m1 i hi]; cases bt x i <;> rfl
theorem qs_an (x y : Int32) {i : Nat} (hi : i < 32) : bt (x &&& (y ^^^ (-1))) i = (bt x i && !bt y i) := by rw [b_and, qs_nt y hi]
theorem qs_ant {x y : Int32} {i : Nat} (hi : i < 32) : bt (x &&& (y ^^^ (-1))) i = true ↔ bt x i = true ∧ bt y i = false := by
  rw [qs_an x y hi]; cases bt x i <;> cases bt y i <;> simp
theorem qs_at {x y : Int32} {i : Nat} : bt (x &&& y) i = true ↔ bt x i = true ∧ bt y i = true := by
  rw [b_and]; cases bt x i <;> cases bt y i <;> simp
theorem qs_ot {x y : Int32} {i : Nat} : bt (x ||| y) i = true ↔ bt x i = true ∨ bt y i = true := by
  rw [b_or]; cases bt x i <;> cases bt y i <;> simp
theorem qs_tf {b : Bool} (h : ¬ b = true) : b = false := by cases b; rfl; exact absurd rfl h
theorem qs_lt {x : Int32} {i : Nat} (h : bt x i = true) : i < 32 := by
  apply Classical.byContradiction; intro hn
  rw [b_big (by omega)] at h; exact absurd h (by decide)
def qs_sub (x y : Int32) : Prop := ∀ i, i < 32 → bt x i = true → bt y i = true
theorem qs_sub_r (x : Int32) : qs_sub x x := fun _ _ h => h
theorem qs_sub_t {x y z : Int32} (h : qs_sub x y) (h' : qs_sub y z) : qs_sub x z := fun i hi hx => h' i hi (h i hi hx)
theorem qs_z {x : Int32} : x = 0 ↔ ∀ i, i < 32 → bt x i = false :=
  ⟨fun h i _ => by rw [h]; exact b_0 i, fun h => b_ext fun i hi => (h i hi).trans (b_0 i).symm⟩
theorem qs_nz {x : Int32} : ¬ x = 0 ↔ ∃ i, i < 32 ∧ bt x i = true := by
  constructor
  · intro h
    apply Classical.byContradiction
    intro hn
    exact h (qs_z.mpr fun i hi => qs_tf fun e => hn ⟨i, hi, e⟩)
  · intro ⟨i, hi, e⟩ hz
    rw [hz, b_0] at e; exact absurd e (by decide)
theorem qs_subZ {x y : Int32} : x &&& (y ^^^ (-1)) = 0 ↔ qs_sub x y := by
  rw [qs_z]
  constructor
  · intro h i hi hx
    have := h i hi
    rw [qs_an x y hi, hx] at this
    cases e : bt y i
    · rw [e] at this; exact absurd this (by decide)
    · rfl
  · intro h i hi
    refine qs_tf fun e => ?_
    have := (qs_ant hi).mp e
    rw [h i hi this.1] at this
    exact absurd this.2 (by decide)
theorem qs_bit (x : Int32) {j : Nat} (hj : j < 32) : (x >>> (nI j &&& 31)) &&& 1 = if bt x j = true then 1 else 0 := by
  apply b_ext
  intro i hi
  rw [b_and, b_sshr j hj x hi]
  have h1 : ∀ i, i < 32 → bt 1 i = decide (i = 0) := by decide +kernel
  rw [h1 i hi]
  by_cases h0 : i = 0
  · subst h0
    rw [if_pos (by omega), decide_eq_true rfl, Bool.and_true]
    by_cases hb : bt x j = true
    · rw [if_pos hb, h1 0 hi, Nat.add_zero, hb]; rfl
    · rw [if_neg hb, b_0, Nat.add_zero]; exact qs_tf hb
  · rw [decide_eq_false h0, Bool.and_false]
    by_cases hb : bt x j = true
    · rw [if_pos hb, h1 i hi, decide_eq_false h0]
    · rw [if_neg hb, b_0]
def qs_01 (b : Bool) : Int32 := if b = true then 1 else 0
theorem qs_01t {b : Bool} (h : b = true) : qs_01 b = 1 := if_pos h
theorem qs_01f {b : Bool} (h : b = false) : qs_01 b = 0 := if_neg (by rw [h]; decide)
theorem qs_010 {b : Bool} : qs_01 b = 0 ↔ b = false := by cases b <;> decide
theorem qs_011 {b : Bool} : qs_01 b = 1 ↔ b = true := by cases b <;> decide
theorem qs_cont (x : Int32) {p v : Nat} (h : p * 5 + v < 32) : (x >>> (((5 * nI p) + nI v) &&& 31)) &&& 1 = qs_01 (bt x (p * 5 + v)) := by
  rw [qs_5v]; exact qs_bit x h
theorem qs_bitI (x : Int32) {j : Nat} (hj : j < 32) : (x >>> (nI j &&& 31)) &&& 1 = qs_01 (bt x j) := qs_bit x hj
theorem qs_neg (x : Int32) : x < 0 ↔ bt x 31 = true := by
  rw [Int32.lt_iff_toInt_lt]
  show x.toBitVec.toInt < 0 ↔ x.toBitVec.getLsbD 31 = true
  rw [BitVec.toInt_neg_iff]
  refine BitVec.msb_eq_true_iff_two_mul_ge.symm.trans ?_
  rw [BitVec.msb_eq_getLsbD_last]
theorem qs_nn {x : Int32} (h : bt x 31 = false) : 0 ≤ x := Int32.not_lt.mp fun z => by
  rw [(qs_neg x).mp z] at h; exact absurd h (by decide)
/-! ===== counting ===== -/
def qs_cn (x : Int32) : Nat → Nat
  | 0 => 0
  | n + 1 => qs_cn x n + (bt x n).toNat
def qs_c (x : Int32) : Nat := qs_cn x 32
theorem qs_tn {a b : Bool} (h : a = true → b = true) : a.toNat ≤ b.toNat := by
  cases a <;> cases b <;> first | decide | exact absurd (h rfl) (by decide)
theorem qs_cn_le {x y : Int32} (h : qs_sub x y) : ∀ n, n ≤ 32 → qs_cn x n ≤ qs_cn y n
  | 0, _ => Nat.le_refl 0
  | n + 1, hn => Nat.add_le_add (qs_cn_le h n (by omega)) (qs_tn (h n (by omega)))
theorem qs_cn_lt {x y : Int32} (h : qs_sub x y) {i : Nat} (hy : bt y i = true) (hx : bt x i = false) : ∀ n, n ≤ 32 → i < n → qs_cn x n < qs_cn y n
  | 0, _, h0 => absurd h0 (by omega)
  | n + 1, hn, h0 => by
    show qs_cn x n + (bt x n).toNat < qs_cn y n + (bt y n).toNat
    by_cases e : i = n
    · subst e
      rw [hy, hx]
      have := qs_cn_le h i (by omega)
      show qs_cn x i + 0 < qs_cn y i + 1
      omega
    · have h1 := qs_cn_lt h hy hx n (by omega) (by omega)
      have h2 := qs_tn (h n (by omega))
      omega
theorem qs_c_le {x y : Int32} (h : qs_sub x y) : qs_c x ≤ qs_c y := qs_cn_le h 32 (Nat.le_refl _)
theorem qs_c_lt {x y : Int32} (h : qs_sub x y) {i : Nat} (hi : i < 32) (hy : bt y i = true) (hx : bt x i = false) : qs_c x < qs_c y := qs_cn_lt h hy hx 32 (Nat.le_refl _) hi
theorem qs_cn_m {x : Int32} {m : Nat} (h : ∀ i, i < 32 → bt x i = true → i < m) : ∀ n, n ≤ 32 → qs_cn x n ≤ n ∧ qs_cn x n ≤ m
  | 0, _ => ⟨Nat.le_refl 0, Nat.zero_le m⟩
  | n + 1, hn => by
    have ih := qs_cn_m h n (by omega)
    show qs_cn x n + (bt x n).toNat ≤ n + 1 ∧ qs_cn x n + (bt x n).toNat ≤ m
    cases e : bt x n
    · show qs_cn x n + 0 ≤ n + 1 ∧ qs_cn x n + 0 ≤ m
      omega
    · have := h n (by omega) e
      show qs_cn x n + 1 ≤ n + 1 ∧ qs_cn x n + 1 ≤ m
      omega
theorem qs_cn_s (x : Int32) (n : Nat) : ∀ m, qs_cn x n ≤ qs_cn x (n + m)
  | 0 => Nat.le_refl _
  | m + 1 => Nat.le_trans (qs_cn_s x n m) (Nat.le_add_right _ _)
def qs_ne (P : Nat) (x : Int32) : Prop := ∀ p, p < P → ∃ v, v < 5 ∧ bt x (p * 5 + v) = true
def qs_reg (P V : Nat) (x : Int32) : Prop := ∀ i, i < 32 → bt x i = true → i < P * 5 ∧ i % 5 ≤ V
theorem qs_cn_p {x : Int32} : ∀ P, qs_ne P x → P ≤ qs_cn x (P * 5)
  | 0, _ => Nat.zero_le _
  | P + 1, h => by
    have ih := qs_cn_p P (fun p hp => h p (by omega))
    obtain ⟨v, hv, hb⟩ := h P (by omega)
    have e : (P + 1) * 5 = P * 5 + 5 := by omega
    rw [e]
    have h5 : qs_cn x (P * 5) + 1 ≤ qs_cn x (P * 5 + (v + 1)) := by
      show _ ≤ qs_cn x (P * 5 + v) + (bt x (P * 5 + v)).toNat
      rw [hb]
      have := qs_cn_s x (P * 5) v
      show _ ≤ qs_cn x (P * 5 + v) + 1
      omega
    have h6 := qs_cn_s x (P * 5 + (v + 1)) (4 - v)
    rw [show P * 5 + (v + 1) + (4 - v) = P * 5 + 5 from by omega] at h6
    omega
theorem qs_c_ge {P : Nat} {x : Int32} (hP : P ≤ 6) (h : qs_ne P x) : P ≤ qs_c x := by
  have h1 := qs_cn_p P h
  have h2 := qs_cn_s x (P * 5) (32 - P * 5)
  rw [show P * 5 + (32 - P * 5) = 32 from by omega] at h2
  exact Nat.le_trans h1 h2
theorem qs_c_up {P V : Nat} {x : Int32} (h : qs_reg P V x) : qs_c x ≤ P * 5 :=
  (qs_cn_m (fun i hi hb => (h i hi hb).1) 32 (Nat.le_refl _)).2
theorem qs_ne_m {P : Nat} {x y : Int32} (hP : P ≤ 6) (h : qs_sub x y) (hn : qs_ne P x) : qs_ne P y := fun p hp =>
  let ⟨v, hv, hb⟩ := hn p hp
  ⟨v, hv, h _ (by omega) hb⟩
theorem qs_reg_m {P V : Nat} {x y : Int32} (h : qs_sub x y) (hn : qs_reg P V y) : qs_reg P V x := fun i hi hb => hn i hi (h i hi hb)
end
section
/-! ===== assignments, rules, the trail ===== -/
def qs_as (P : Nat) (a : Nat → Nat) : Prop := ∀ p, p < P → a p < 5
def qs_in (P : Nat) (a : Nat → Nat) (x : Int32) : Prop := ∀ p, p < P → bt x (p * 5 + a p) = true
def qs_imp (P F : Nat) (k : Int32) (fb : Nat → Int32) (r : Int32) : Prop := ∀ a, qs_as P a → qs_in P a r → ∃ f, f < F ∧ bt k f = true ∧ qs_in P a (fb f)
def qs_rule (P F : Nat) (k : Int32) (fb : Nat → Int32) (r : Int32) : Prop := bt r 31 = false ∧ qs_imp P F k fb r
def qs_sol (P F : Nat) (k : Int32) (fb : Nat → Int32) (D : Int32) (a : Nat → Nat) : Prop := qs_as P a ∧ qs_in P a D ∧ ∀ f, f < F → bt k f = true → ¬ qs_in P a (fb f)
theorem qs_in_m {P : Nat} {a : Nat → Nat} {x y : Int32} (h : qs_sub x y) (hx : qs_in P a x) : qs_in P a y := fun p hp => h _ (qs_lt (hx p hp)) (hx p hp)
theorem qs_sol_r {P F : Nat} {k : Int32} {fb : Nat → Int32} {D r : Int32} {a : Nat → Nat} (h : qs_sol P F k fb D a) (hr : qs_rule P F k fb r) : ¬ qs_in P a r := fun hi =>
  let ⟨f, hf, hk, hb⟩ := hr.2 a h.1 hi
  h.2.2 f hf hk hb
def qs_res (a b g : Int32) : Int32 := (a &&& b) ||| ((a ||| b) &&& g)
theorem qs_res_rule {P F : Nat} {k : Int32} {fb : Nat → Int32} {a b : Int32} {p : Nat} (hP : P ≤ 6) (hp : p < P) (ha : qs_rule P F k fb a) (hb : qs_rule P F k fb b) : qs_rule P F k fb (qs_res a b (qs_g p)) := by
  refine ⟨qs_tf fun e => ?_, fun s hs hi => ?_⟩
  · rcases qs_ot.mp e with h | h
    · exact absurd (qs_at.mp h).1 (by rw [ha.1]; decide)
    · rcases qs_ot.mp (qs_at.mp h).1 with h' | h'
      · rw [ha.1] at h'; exact absurd h' (by decide)
      · rw [hb.1] at h'; exact absurd h' (by decide)
  · have hq : ∀ q, q < P → q ≠ p → bt a (q * 5 + s q) = true ∧ bt b (q * 5 + s q) = true := by
      intro q hq hn
      have hs5 := hs q hq
      rcases qs_ot.mp (hi q hq) with h | h
      · exact qs_at.mp h
      · have := (qs_gt (by omega) (by omega)).mp (qs_at.mp h).2
        omega
    have hpp : bt a (p * 5 + s p) = true ∨ bt b (p * 5 + s p) = true := by
      rcases qs_ot.mp (hi p hp) with h | h
      · exact Or.inl (qs_at.mp h).1
      · exact qs_ot.mp (qs_at.mp h).1
    rcases hpp with h | h
    · refine ha.2 s hs fun q hq' => ?_
      by_cases e : q = p
      · rw [e]; exact h
      · exact (hq q hq' e).1
    · refine hb.2 s hs fun q hq' => ?_
      by_cases e : q = p
      · rw [e]; exact h
      · exact (hq q hq' e).2
/-- what a resolution holds: all of d', if d = d' less the cut lies in the box, and d' lies in the reason but for one package -/
theorem qs_res_sub {d d' cut box r : Int32} {p : Nat} (e : d = d' &&& (cut ^^^ (-1))) (hc : qs_sub cut (qs_g p)) (hcr : qs_sub cut r) (hr : qs_sub (d' &&& (r ^^^ (-1))) (qs_g p)) (hb : qs_sub d box) : qs_sub d' (qs_res box r (qs_g p)) := by
  intro i hi hd
  by_cases hcut : bt cut i = true
  · exact qs_ot.mpr (Or.inr (qs_at.mpr ⟨qs_ot.mpr (Or.inr (hcr i hi hcut)), hc i hi hcut⟩))
  · have hbox : bt box i = true := hb i hi (by rw [e]; exact (qs_ant hi).mpr ⟨hd, qs_tf hcut⟩)
    by_cases hri : bt r i = true
    · exact qs_ot.mpr (Or.inl (qs_at.mpr ⟨hbox, hri⟩))
    · exact qs_ot.mpr (Or.inr (qs_at.mpr ⟨qs_ot.mpr (Or.inl hbox), hr i hi ((qs_ant hi).mpr ⟨hd, qs_tf hri⟩)⟩))
theorem qs_back {d d' cut box : Int32} (e : d = d' &&& (cut ^^^ (-1))) (hc : qs_sub cut box) (hb : qs_sub d box) : qs_sub d' box := by
  intro i hi hd
  by_cases hcut : bt cut i = true
  · exact hc i hi hcut
  · exact hb i hi (by rw [e]; exact (qs_ant hi).mpr ⟨hd, qs_tf hcut⟩)
def qs_dg (v : Nat) : Nat := if v = 0 then 0 else 5 - v
def qs_cl (d : Int32) (q : Nat) : Prop := ∀ v w, v < 5 → w < 5 → bt d (q * 5 + v) = true → bt d (q * 5 + w) = true → v = w
def qs_bst (d : Int32) (p v : Nat) : Prop := v < 5 ∧ bt d (p * 5 + v) = true ∧ ∀ w, w < 5 → bt d (p * 5 + w) = true → qs_dg v ≤ qs_dg w
def qs_dec (d cut : Int32) (p : Nat) : Prop := (∀ q, q < p → qs_cl d q) ∧ ∃ v, qs_bst d p v ∧ (∀ w, w < 5 → w ≠ v → bt d (p * 5 + w) = true → bt cut (p * 5 + w) = true) ∧ bt cut (p * 5 + v) = false
def qs_tr (P F : Nat) (k : Int32) (fb : Nat → Int32) (D0 : Int32) (tc tr ld lt : Nat → Int32) : Nat → Int32 → Nat → Prop
  | 0 => fun d L => d = D0 ∧ L = 0
  | t + 1 => fun d L => ∃ d' : Int32, d = d' &&& (tc t ^^^ (-1)) ∧ qs_sub (tc t) d' ∧ ¬ tc t = 0 ∧ ∃ p, p < P ∧ qs_sub (tc t) (qs_g p) ∧
      ((qs_rule P F k fb (tr t) ∧ qs_sub (tc t) (tr t) ∧ qs_sub (d' &&& (tr t ^^^ (-1))) (qs_g p) ∧ qs_tr P F k fb D0 tc tr ld lt t d' L) ∨
       (tr t = -1 ∧ ∃ L', L = L' + 1 ∧ ld (L' + 1) = d' ∧ lt (L' + 1) = nI t ∧ qs_dec d' (tc t) p ∧ qs_tr P F k fb D0 tc tr ld lt t d' L'))
section
variable {P F : Nat} {k : Int32} {fb : Nat → Int32} {D0 : Int32} {tc tr ld lt : Nat → Int32}
theorem qs_ans {d' c : Int32} : qs_sub (d' &&& (c ^^^ (-1))) d' := fun _ hi h => ((qs_ant hi).mp h).1
theorem qs_tr_sub : ∀ t d L, qs_tr P F k fb D0 tc tr ld lt t d L → qs_sub d D0 := by
  intro t
  induction t with
  | zero => intro d L h; rw [h.1]; exact qs_sub_r _
  | succ t ih =>
    intro d L ⟨d', e, _, _, p, _, _, h⟩
    rw [e]
    refine qs_sub_t qs_ans ?_
    rcases h with ⟨_, _, _, h⟩ | ⟨_, L', _, _, _, _, h⟩
    · exact ih _ _ h
    · exact ih _ _ h
theorem qs_tr_cnt : ∀ t d L, qs_tr P F k fb D0 tc tr ld lt t d L → t + qs_c d ≤ qs_c D0 := by
  intro t
  induction t with
  | zero => intro d L h; rw [h.1]; omega
  | succ t ih =>
    intro d L ⟨d', e, hs, hz, p, _, _, h⟩
    have h1 : t + qs_c d' ≤ qs_c D0 := by
      rcases h with ⟨_, _, _, h⟩ | ⟨_, L', _, _, _, _, h⟩
      · exact ih _ _ h
      · exact ih _ _ h
    obtain ⟨i, hi, hc⟩ := qs_nz.mp hz
    have h2 : qs_c d < qs_c d' := by
      rw [e]
      refine qs_c_lt qs_ans hi (hs i hi hc) (qs_tf fun e => ?_)
      rw [((qs_ant hi).mp e).2] at hc
      exact absurd hc (by decide)
    omega
theorem qs_tr_fr {tc' tr' ld' lt' : Nat → Int32} : ∀ t d L, (∀ i, i < t → tc' i = tc i) → (∀ i, i < t → tr' i = tr i) → (∀ l, l ≤ L → ld' l = ld l) → (∀ l, l ≤ L → lt' l = lt l) → qs_tr P F k fb D0 tc tr ld lt t d L → qs_tr P F k fb D0 tc' tr' ld' lt' t d L := by
  intro t
  induction t with
  | zero => intro d L _ _ _ _ h; exact h
  | succ t ih =>
    intro d L h1 h2 h3 h4 ⟨d', e, hs, hz, p, hp, hg, h⟩
    have e1 := h1 t (by omega)
    have e2 := h2 t (by omega)
    refine ⟨d', by rw [e1]; exact e, by rw [e1]; exact hs, by rw [e1]; exact hz, p, hp, by rw [e1]; exact hg, ?_⟩
    rcases h with ⟨a, b, c, h⟩ | ⟨a, L', b, c, g, j, h⟩
    · exact Or.inl ⟨by rw [e2]; exact a, by rw [e1, e2]; exact b, by rw [e2]; exact c, ih _ _ (fun i hi => h1 i (by omega)) (fun i hi => h2 i (by omega)) h3 h4 h⟩
    · subst b
      exact Or.inr ⟨by rw [e2]; exact a, L', rfl, by rw [h3 _ (Nat.le_refl _)]; exact c, by rw [h4 _ (Nat.le_refl _)]; exact g, by rw [e1]; exact j, ih _ _ (fun i hi => h1 i (by omega)) (fun i hi => h2 i (by omega)) (fun l hl => h3 l (by omega)) (fun l hl => h4 l (by omega)) h⟩
theorem qs_cl_m {d d' : Int32} {q : Nat} (hq : q < 6) (h : qs_sub d d') (hc : qs_cl d' q) : qs_cl d q := fun v w hv hw h1 h2 => hc v w hv hw (h _ (by omega) h1) (h _ (by omega) h2)
theorem qs_dec_cl {d cut : Int32} {p : Nat} (hp : p < 6) (h : qs_dec d cut p) : ∀ q, q ≤ p → qs_cl (d &&& (cut ^^^ (-1))) q := by
  intro q hq
  by_cases e : q = p
  · subst e
    obtain ⟨_, v, _, hw, _⟩ := h
    have : ∀ w, w < 5 → bt (d &&& (cut ^^^ (-1))) (q * 5 + w) = true → w = v := by
      intro w hw5 hb
      have hb' := (qs_ant (by omega)).mp hb
      apply Classical.byContradiction
      intro hn
      rw [hw w hw5 hn hb'.1] at hb'
      exact absurd hb'.2 (by decide)
    intro a b ha hb h1 h2
    rw [this a ha h1, this b hb h2]
  · exact qs_cl_m (by omega) qs_ans (h.1 q (by omega))
/-- at level L the first L packages are closed -/
theorem qs_tr_lv (hP : P ≤ 6) : ∀ t d L, qs_tr P F k fb D0 tc tr ld lt t d L → L ≤ P ∧ ∀ q, q < L → qs_cl d q := by
  intro t
  induction t with
  | zero => intro d L h; rw [h.2]; exact ⟨Nat.zero_le _, fun q hq => absurd hq (by omega)⟩
  | succ t ih =>
    intro d L ⟨d', e, hs, hz, p, hp, hg, h⟩
    rcases h with ⟨_, _, _, h⟩ | ⟨_, L', b, c, g, j, h⟩
    · obtain ⟨h1, h2⟩ := ih _ _ h
      refine ⟨h1, fun q hq => ?_⟩
      rw [e]
      exact qs_cl_m (by omega) qs_ans (h2 q hq)
    · obtain ⟨h1, h2⟩ := ih _ _ h
      have hle : L' ≤ p := by
        apply Classical.byContradiction
        intro hn
        obtain ⟨i, hi, hc⟩ := qs_nz.mp hz
        have hgi := (qs_gt (by omega) hi).mp (hg i hi hc)
        obtain ⟨_, v, hb, _, hv⟩ := j
        have hcl := h2 p (by omega) (i - p * 5) v (by omega) hb.1 (by rw [show p * 5 + (i - p * 5) = i from by omega]; exact hs i hi hc) hb.2.1
        rw [← hcl, show p * 5 + (i - p * 5) = i from by omega, hc] at hv
        exact absurd hv (by decide)
      refine ⟨by omega, fun q hq => ?_⟩
      rw [e]
      exact qs_dec_cl (by omega) j q (by omega)
/-- the levels of a trail -/
theorem qs_tr_lev (hP : P ≤ 6) : ∀ t d L, qs_tr P F k fb D0 tc tr ld lt t d L → ∀ l, 1 ≤ l → l ≤ L → ∃ t', t' < t ∧ lt l = nI t' ∧ qs_tr P F k fb D0 tc tr ld lt t' (ld l) (l - 1) ∧ qs_sub d (ld l) ∧ qs_c d < qs_c (ld l) := by
  intro t
  induction t with
  | zero => intro d L h l h1 h2; have := h.2; omega
  | succ t ih =>
    intro d L ⟨d', e, hs, hz, p, hp, hg, h⟩ l hl1 hl2
    obtain ⟨i, hi, hc⟩ := qs_nz.mp hz
    have h2 : qs_c d < qs_c d' := by
      rw [e]
      refine qs_c_lt qs_ans hi (hs i hi hc) (qs_tf fun e => ?_)
      rw [((qs_ant hi).mp e).2] at hc
      exact absurd hc (by decide)
    have hsub : qs_sub d d' := by rw [e]; exact qs_ans
    rcases h with ⟨_, _, _, h⟩ | ⟨_, L', b, c, g, j, h⟩
    · obtain ⟨t', ht', a1, a2, a3, a4⟩ := ih _ _ h l hl1 hl2
      exact ⟨t', by omega, a1, a2, qs_sub_t hsub a3, by omega⟩
    · subst b
      by_cases el : l = L' + 1
      · subst el
        exact ⟨t, by omega, g, by rw [c]; exact h, by rw [c]; exact hsub, by rw [c]; exact h2⟩
      · obtain ⟨t', ht', a1, a2, a3, a4⟩ := ih _ _ h l hl1 (by omega)
        exact ⟨t', by omega, a1, a2, qs_sub_t hsub a3, by omega⟩
/-- a solution in the box is in the domain, or left it at a decision -/
theorem qs_tr_sol (hP : P ≤ 6) {a : Nat → Nat} (ha : qs_sol P F k fb D0 a) : ∀ t d L, qs_tr P F k fb D0 tc tr ld lt t d L → qs_in P a d ∨ (1 ≤ L ∧ ∃ d' cut p, p < P ∧ qs_in P a d' ∧ qs_dec d' cut p ∧ qs_sub cut (qs_g p) ∧ qs_sub d (d' &&& (cut ^^^ (-1))) ∧ bt cut (p * 5 + a p) = true) := by
  intro t
  induction t with
  | zero => intro d L h; rw [h.1]; exact Or.inl ha.2.1
  | succ t ih =>
    intro d L ⟨d', e, hs, hz, p, hp, hg, h⟩
    have hsub : qs_sub d d' := by rw [e]; exact qs_ans
    rcases h with ⟨h1, h2, h3, h⟩ | ⟨_, L', b, c, g, j, h⟩
    · rcases ih _ _ h with hi | ⟨hL, d2, cut, p2, hp2, b1, b2, b3, b4, b5⟩
      · refine Or.inl fun q hq => ?_
        rw [e]
        refine (qs_ant (qs_lt (hi q hq))).mpr ⟨hi q hq, qs_tf fun hcut => ?_⟩
        -- a lies in the cut at q, so q = p, so a lies in the rule
        have hq5 := ha.1 q hq
        have hgq := (qs_gt (by omega) (by omega)).mp (hg _ (by omega) hcut)
        have hqp : q = p := by omega
        refine qs_sol_r ha h1 fun r hr => ?_
        by_cases er : r = p
        · rw [er, ← hqp]; exact h2 _ (by omega) hcut
        · apply Classical.byContradiction
          intro hn
          have hr5 := ha.1 r hr
          have := (qs_gt (by omega) (by omega)).mp (h3 _ (by omega) ((qs_ant (by omega)).mpr ⟨hi r hr, qs_tf hn⟩))
          omega
      · exact Or.inr ⟨hL, d2, cut, p2, hp2, b1, b2, b3, qs_sub_t hsub b4, b5⟩
    · rcases ih _ _ h with hi | ⟨hL, d2, cut, p2, hp2, b1, b2, b3, b4, b5⟩
      · by_cases hcut : bt (tc t) (p * 5 + a p) = true
        · exact Or.inr ⟨by omega, d', tc t, p, hp, hi, j, hg, by rw [e]; exact qs_sub_r _, hcut⟩
        · refine Or.inl fun q hq => ?_
          rw [e]
          refine (qs_ant (qs_lt (hi q hq))).mpr ⟨hi q hq, qs_tf fun hc2 => ?_⟩
          have hq5 := ha.1 q hq
          have hgq := (qs_gt (by omega) (by omega)).mp (hg _ (by omega) hc2)
          have hqp : q = p := by omega
          rw [hqp] at hc2
          exact hcut hc2
      · exact Or.inr ⟨by omega, d2, cut, p2, hp2, b1, b2, b3, qs_sub_t hsub b4, b5⟩
/-- no decision and the domain in a rule: no solution -/
theorem qs_tr_no (hP : P ≤ 6) {t : Nat} {d r : Int32} (h : qs_tr P F k fb D0 tc tr ld lt t d 0) (hr : qs_rule P F k fb r) (hd : qs_sub d r) : ¬ ∃ a, qs_sol P F k fb D0 a := fun ⟨a, ha⟩ => by
  rcases qs_tr_sol hP ha t d 0 h with hi | ⟨hL, _⟩
  · exact qs_sol_r ha hr (qs_in_m hd hi)
  · omega
end
/-! ===== the order of assignments ===== -/
def qs_num (a : Nat → Nat) : Nat → Nat
  | 0 => 0
  | p + 1 => qs_num a p * 5 + qs_dg (a p)
theorem qs_dg5 {v : Nat} : qs_dg v < 5 := by unfold qs_dg; split <;> omega
theorem qs_dg_lt : ∀ v, v < 5 → ∀ w, w < 5 → w ≠ v → qs_dg v ≤ qs_dg w → qs_dg v < qs_dg w := by decide
theorem qs_num_eq {a b : Nat → Nat} : ∀ p, (∀ q, q < p → a q = b q) → qs_num a p = qs_num b p
  | 0, _ => rfl
  | p + 1, h => by
    show qs_num a p * 5 + qs_dg (a p) = qs_num b p * 5 + qs_dg (b p)
    rw [qs_num_eq p (fun q hq => h q (by omega)), h p (by omega)]
theorem qs_num_lt {a b : Nat → Nat} {p : Nat} (h : qs_num a p < qs_num b p) : ∀ m, qs_num a (p + m) < qs_num b (p + m)
  | 0 => h
  | m + 1 => by
    have ih := qs_num_lt h m
    show qs_num a (p + m) * 5 + qs_dg (a (p + m)) < qs_num b (p + m) * 5 + qs_dg (b (p + m))
    have := @qs_dg5 (a (p + m))
    omega
def qs_best (P F : Nat) (k : Int32) (fb : Nat → Int32) (D : Int32) (b : Nat → Nat) : Prop := qs_sol P F k fb D b ∧ ∀ a, qs_sol P F k fb D a → qs_num b P ≤ qs_num a P
def qs_val (d : Int32) (p : Nat) : Nat := if bt d (p * 5) = true then 0 else if bt d (p * 5 + 1) = true then 1 else if bt d (p * 5 + 2) = true then 2 else if bt d (p * 5 + 3) = true then 3 else 4
theorem qs_val5 (d : Int32) (p : Nat) : qs_val d p < 5 := by
  unfold qs_val; repeat' split
  all_goals omega
theorem qs_val_b {d : Int32} {p : Nat} (h : ∃ v, v < 5 ∧ bt d (p * 5 + v) = true) : bt d (p * 5 + qs_val d p) = true := by
  unfold qs_val
  split
  · assumption
  · split
    · assumption
    · split
      · assumption
      · split
        · assumption
        · obtain ⟨v, hv, hb⟩ := h
          have : v = 0 ∨ v = 1 ∨ v = 2 ∨ v = 3 ∨ v = 4 := by omega
          rcases this with rfl | rfl | rfl | rfl | rfl
          · contradiction
          · contradiction
          · contradiction
          · contradiction
          · exact hb
/-- a full domain at the end of a search holds the best solution -/
theorem qs_final {P F : Nat} {k : Int32} {fb : Nat → Int32} {D0 : Int32} {tc tr ld lt : Nat → Int32} (hP : P ≤ 6) {t L : Nat} {d : Int32} (h : qs_tr P F k fb D0 tc tr ld lt t d L) (hn : qs_ne P d) (hc : ∀ q, q < P → qs_cl d q) (hreg : ∀ i, i < 32 → bt d i = true → i < P * 5) (hf : ∀ f, f < F → bt k f = true → ¬ qs_sub d (fb f)) : qs_best P F k fb D0 (qs_val d) := by
  have hb : qs_in P (qs_val d) d := fun p hp => qs_val_b (hn p hp)
  refine ⟨⟨fun p _ => qs_val5 d p, qs_in_m (qs_tr_sub t d L h) hb, fun f hf1 hk hi => hf f hf1 hk fun i hi32 hd => ?_⟩, fun a ha => ?_⟩
  · have h1 := hreg i hi32 hd
    have e : i = i / 5 * 5 + i % 5 := by omega
    have hq : i / 5 < P := by omega
    have h2 := hc (i / 5) hq (i % 5) (qs_val d (i / 5)) (by omega) (qs_val5 _ _) (by rw [← e]; exact hd) (hb _ hq)
    have h3 := hi (i / 5) hq
    rw [← h2, ← e] at h3
    exact h3
  · rcases qs_tr_sol hP ha t d L h with hi | ⟨_, d', cut, p, hp, h1, h2, h3, h4, h5⟩
    · exact Nat.le_of_eq (qs_num_eq P fun q hq => hc q hq _ _ (qs_val5 _ _) (ha.1 q hq) (hb q hq) (hi q hq))
    · apply Nat.le_of_lt
      have hlow : ∀ q, q < p → qs_val d q = a q := fun q hq => by
        have hb' := h4 _ (qs_lt (hb q (by omega))) (hb q (by omega))
        exact h2.1 q hq _ _ (qs_val5 _ _) (ha.1 q (by omega)) ((qs_ant (qs_lt hb')).mp hb').1 (h1 q (by omega))
      obtain ⟨_, v, hv, hw, hcv⟩ := h2
      have hbp := h4 _ (qs_lt (hb p hp)) (hb p hp)
      have hbp' := (qs_ant (qs_lt hbp)).mp hbp
      have ev : qs_val d p = v := by
        apply Classical.byContradiction
        intro hne
        rw [hw _ (qs_val5 _ _) hne hbp'.1] at hbp'
        exact absurd hbp'.2 (by decide)
      have hav : a p ≠ v := fun e => by
        rw [e, hcv] at h5
        exact absurd h5 (by decide)
      have hle := hv.2.2 (a p) (ha.1 p hp) (h1 p hp)
      have hav5 := ha.1 p hp
      have hv5 := hv.1
      have hlt : qs_dg v < qs_dg (a p) := qs_dg_lt v hv5 (a p) hav5 hav hle
      have hnum : qs_num (qs_val d) (p + 1) < qs_num a (p + 1) := by
        show qs_num (qs_val d) p * 5 + qs_dg (qs_val d p) < qs_num a p * 5 + qs_dg (a p)
        rw [qs_num_eq p hlow, ev]
        omega
      have := qs_num_lt hnum (P - (p + 1))
      rw [show p + 1 + (P - (p + 1)) = P from by omega] at this
      exact this
end
section
/-! ===== the component's readers ===== -/
theorem qs_ct {post : Int32 → Prop} {u : SX} {x : Int32} {p v : Nat} (h5 : p * 5 + v < 32) (h : post (qs_01 (bt x (p * 5 + v)))) : wpX_contains post u x (nI p) (nI v) := by
  obtain ⟨fP, fV, fC, al, fF, mu, hsu, sP, sL, sH, st, rP, rV, so, bl, de, hlr, lb, rc, fr, ol, rf, dm, ts, lv, aff, afb, anb, aru, atc, atr, ald, alt⟩ := u
  show post ((x >>> (((5 * nI p) + nI v) &&& 31)) &&& 1)
  rw [qs_cont x h5]
  exact h
def qs_sole (P : Nat) (rest : Int32) (p : Nat) : Prop := p < P ∧ ¬ rest = 0 ∧ qs_sub rest (qs_g p)
def qs_SG (P : Nat) (rest r : Int32) : Prop := (r = 0 ∧ ¬ ∃ p, qs_sole P rest p) ∨ ∃ p, qs_sole P rest p ∧ r = qs_g p
theorem qs_g0 : ∀ p, p < 6 → ¬ qs_g p = 0 := by decide +kernel
theorem qs_sole_u {P : Nat} {rest : Int32} {p q : Nat} (hP : P ≤ 6) (h : qs_sole P rest p) (h' : qs_sole P rest q) : p = q := by
  obtain ⟨i, hi, hb⟩ := qs_nz.mp h.2.1
  have h1 := (qs_gt (by have := h.1; omega) hi).mp (h.2.2 i hi hb)
  have h2 := (qs_gt (by have := h'.1; omega) hi).mp (h'.2.2 i hi hb)
  omega
theorem qs_SG_p {P : Nat} {rest r : Int32} {p : Nat} (hP : P ≤ 6) (h : qs_SG P rest r) (hs : qs_sole P rest p) : r = qs_g p := by
  rcases h with ⟨_, h⟩ | ⟨q, hq, h⟩
  · exact absurd ⟨p, hs⟩ h
  · rw [h, qs_sole_u hP hs hq]
theorem qs_SG_0 {P : Nat} {rest r : Int32} (hP : P ≤ 6) (h : qs_SG P rest r) (hr : r = 0) : ¬ ∃ p, qs_sole P rest p := by
  rcases h with ⟨_, h⟩ | ⟨q, hq, h⟩
  · exact h
  · exact absurd (h.symm.trans hr) (qs_g0 q (by have := hq.1; omega))
theorem qs_SG_n {P : Nat} {rest r : Int32} (h : qs_SG P rest r) (hr : ¬ r = 0) : ∃ p, qs_sole P rest p := by
  rcases h with ⟨h, _⟩ | ⟨q, hq, _⟩
  · exact absurd h hr
  · exact ⟨q, hq⟩
theorem qs_and0 {x y : Int32} : x &&& y = 0 ↔ ∀ i, i < 32 → bt x i = true → bt y i = false := by
  rw [qs_z]
  constructor
  · intro h i hi hx
    have := h i hi
    rw [b_and, hx, Bool.true_and] at this
    exact this
  · intro h i hi
    refine qs_tf fun e => ?_
    have := qs_at.mp e
    rw [h i hi this.1] at this
    exact absurd this.2 (by decide)
section
variable {fP fV fC al fF mu hsu sP sL sH st rP rV so bl de hlr lb rc fr ol rf dm ts lv : Int32} {aff afb anb aru atc atr ald alt : Nat → Int32}
theorem qs_sgl {post : Int32 → Prop} {P : Nat} (hP : P ≤ 6) {rest : Int32} (h : ∀ r, qs_SG P rest r → post r) : ∀ n j, P < n + j → j ≤ P → (∀ q, q < j → rest &&& qs_g q = 0) → wX_soleGroup_2 post rest (nI P) fV fC al fF mu hsu sP sL sH st rP rV so bl de hlr lb rc fr ol rf dm ts lv aff afb anb aru atc atr ald alt n (nI j) := by
  intro n
  induction n with
  | zero => intro j h1 h2 _; omega
  | succ n ih =>
    intro j h1 h2 hz
    refine pk_le P j (fun hle => ?_) (fun hlt => ?_)
    · refine h 0 (Or.inl ⟨rfl, fun ⟨p, hp⟩ => ?_⟩)
      obtain ⟨i, hi, hb⟩ := qs_nz.mp hp.2.1
      have h3 := qs_and0.mp (hz p (by have := hp.1; omega)) i hi hb
      rw [hp.2.2 i hi hb] at h3
      exact absurd h3 (by decide)
    · refine nm_r (e' := qs_g j) (by rw [qs_5]; rfl) ?_
      refine br_c (fun hc => ?_) (fun hc => ?_)
      · refine nm_r (nI_1 j) ?_
        exact ih (j + 1) (by omega) (by omega) (lt_s hz hc)
      · obtain ⟨i, hi, hb⟩ := qs_nz.mp hc
        have hb' := qs_at.mp hb
        refine br_c (fun hs => ?_) (fun hs => ?_)
        · exact h _ (Or.inr ⟨j, ⟨hlt, qs_nz.mpr ⟨i, hi, hb'.1⟩, qs_subZ.mp hs⟩, rfl⟩)
        · refine h 0 (Or.inl ⟨rfl, fun ⟨p, hp⟩ => hs (qs_subZ.mpr ?_)⟩)
          have h1 := (qs_gt (by omega) hi).mp hb'.2
          have h2 := (qs_gt (by have := hp.1; omega) hi).mp (hp.2.2 i hi hb'.1)
          have e : p = j := by omega
          rw [← e]
          exact hp.2.2
end
theorem qs_sg {post : Int32 → Prop} {P : Nat} (hP : P ≤ 6) {u : SX} (hu : u.1 = nI P) {rest : Int32} (h : ∀ r, qs_SG P rest r → post r) : wpX_soleGroup post u rest := by
  obtain ⟨fP, fV, fC, al, fF, mu, hsu, sP, sL, sH, st, rP, rV, so, bl, de, hlr, lb, rc, fr, ol, rf, dm, ts, lv, aff, afb, anb, aru, atc, atr, ald, alt⟩ := u
  have hu' : fP = nI P := hu
  subst hu'
  exact ⟨P + 1, qs_sgl hP h (P + 1) 0 (by omega) (by omega) (fun q hq => by omega)⟩
/-! firstOpen -/
theorem qs_opt : ∀ j, j < 32 → ((nI j &&& (nI j - 1)) = 0 ↔ ∀ v, v < 5 → ∀ w, w < 5 → bt (nI j) v = true → bt (nI j) w = true → v = w) := by decide +kernel
theorem qs_31b : ∀ i, i < 5 → bt 31 i = true := by decide +kernel
theorem qs_open (d : Int32) {p : Nat} (hp : p < 6) {s : Int32} (hs : s = (d >>> ((5 * nI p) &&& 31)) &&& 31) : (s &&& (s - 1)) = 0 ↔ qs_cl d p := by
  have hbit : ∀ v, v < 5 → bt s v = bt d (p * 5 + v) := by
    intro v hv
    rw [hs, qs_5, b_and, b_sshr (p * 5) (by omega) d (by omega), if_pos (by omega), qs_31b v hv, Bool.and_true]
  obtain ⟨j, hj, e⟩ := pk_andE (d >>> ((5 * nI p) &&& 31)) (m := 31) 5 (by decide)
  rw [← hs] at e
  rw [e] at hbit ⊢
  rw [qs_opt j hj]
  constructor
  · intro h v w hv hw h1 h2
    exact h v hv w hw (by rw [hbit v hv]; exact h1) (by rw [hbit w hw]; exact h2)
  · intro h v hv w hw h1 h2
    exact h v w hv hw (by rw [← hbit v hv]; exact h1) (by rw [← hbit w hw]; exact h2)
def qs_FO (P : Nat) (d r : Int32) : Prop := (r = -1 ∧ ∀ q, q < P → qs_cl d q) ∨ ∃ p, p < P ∧ r = nI p ∧ ¬ qs_cl d p ∧ ∀ q, q < p → qs_cl d q
section
variable {fP fV fC al fF mu hsu sP sL sH st rP rV so bl de hlr lb rc fr ol rf dm ts lv : Int32} {aff afb anb aru atc atr ald alt : Nat → Int32}
theorem qs_fol {post : Int32 → Prop} {P : Nat} (hP : P ≤ 6) {d : Int32} (h : ∀ r, qs_FO P d r → post r) : ∀ n j, P < n + j → j ≤ P → (∀ q, q < j → qs_cl d q) → wX_firstOpen_2 post d (nI P) fV fC al fF mu hsu sP sL sH st rP rV so bl de hlr lb rc fr ol rf dm ts lv aff afb anb aru atc atr ald alt n (nI j) := by
  intro n
  induction n with
  | zero => intro j h1 h2 _; omega
  | succ n ih =>
    intro j h1 h2 hz
    refine pk_le P j (fun hle => ?_) (fun hlt => ?_)
    · exact h _ (Or.inl ⟨rfl, fun q hq => hz q (by omega)⟩)
    · refine fun s hs => br_c (fun hc => ?_) (fun hc => ?_)
      · refine nm_r (nI_1 j) ?_
        exact ih (j + 1) (by omega) (by omega) (lt_s hz ((qs_open d (by omega) hs).mp hc))
      · exact h _ (Or.inr ⟨j, hlt, rfl, fun z => hc ((qs_open d (by omega) hs).mpr z), hz⟩)
end
theorem qs_fo {post : Int32 → Prop} {P : Nat} (hP : P ≤ 6) {u : SX} (hu : u.1 = nI P) {d : Int32} (h : ∀ r, qs_FO P d r → post r) : wpX_firstOpen post u d := by
  obtain ⟨fP, fV, fC, al, fF, mu, hsu, sP, sL, sH, st, rP, rV, so, bl, de, hlr, lb, rc, fr, ol, rf, dm, ts, lv, aff, afb, anb, aru, atc, atr, ald, alt⟩ := u
  have hu' : fP = nI P := hu
  subst hu'
  exact ⟨P + 1, qs_fol hP h (P + 1) 0 (by omega) (by omega) (fun q hq => by omega)⟩
/-! bestValue -/
section
variable {fP fV fC al fF mu hsu sP sL sH st rP rV so bl de hlr lb rc fr ol rf dm ts lv : Int32} {aff afb anb aru atc atr ald alt : Nat → Int32}
theorem qs_bvl {post : Int32 → Prop} {d : Int32} {p : Nat} (hp : p < 6) (hn : ∃ v, v < 5 ∧ bt d (p * 5 + v) = true) (h0 : bt d (p * 5) = false) (h : ∀ v, qs_bst d p v → post (nI v)) : ∀ n v, v < n → v < 5 → (∀ w, v < w → w < 5 → bt d (p * 5 + w) = false) → wX_bestValue_18 post d (nI p) fP fV fC al fF mu hsu sP sL sH st rP rV so bl de hlr lb rc fr ol rf dm ts lv aff afb anb aru atc atr ald alt n (nI v) := by
  intro n
  induction n with
  | zero => intro v h1; omega
  | succ n ih =>
    intro v hv hv5 hw
    refine pk_lt v 1 (fun hlt => ?_) (fun hge => ?_)
    · obtain ⟨w, hw5, hb⟩ := hn
      by_cases e : w = 0
      · rw [e, Nat.add_zero, h0] at hb; exact absurd hb (by decide)
      · rw [hw w (by omega) hw5] at hb; exact absurd hb (by decide)
    · refine qs_ct (by omega) ?_
      refine br_c (fun hc => ?_) (fun hc => ?_)
      · refine h v ⟨hv5, qs_011.mp hc, fun w hw5 hb => ?_⟩
        have hwv : ¬ v < w := fun z => by rw [hw w z hw5] at hb; exact absurd hb (by decide)
        have hw0 : ¬ w = 0 := fun z => by rw [z, Nat.add_zero, h0] at hb; exact absurd hb (by decide)
        unfold qs_dg
        rw [if_neg hw0, if_neg (by omega)]
        omega
      · obtain ⟨m, rfl⟩ : ∃ m, v = m + 1 := ⟨v - 1, by omega⟩
        refine nm_r (pk_m1 m) ?_
        refine ih m (by omega) (by omega) (fun w h1 h2 => ?_)
        by_cases e : w = m + 1
        · rw [e]; exact qs_tf fun z => hc (qs_011.mpr z)
        · exact hw w (by omega) h2
end
theorem qs_bv {post : Int32 → Prop} {V : Nat} (hV : V ≤ 4) {u : SX} (hu : u.2.1 = nI V) {d : Int32} {p : Nat} (hp : p < 6) (hn : ∃ v, v < 5 ∧ bt d (p * 5 + v) = true) (hv : ∀ v, v < 5 → bt d (p * 5 + v) = true → v ≤ V) (h : ∀ v, qs_bst d p v → post (nI v)) : wpX_bestValue post u d (nI p) := by
  obtain ⟨fP, fV, fC, al, fF, mu, hsu, sP, sL, sH, st, rP, rV, so, bl, de, hlr, lb, rc, fr, ol, rf, dm, ts, lv, aff, afb, anb, aru, atc, atr, ald, alt⟩ := u
  have hu' : fV = nI V := hu
  subst hu'
  unfold wpX_bestValue
  dsimp only
  refine qs_ct (p := p) (v := 0) (by omega) ?_
  refine br_c (fun hc => ?_) (fun hc => ?_)
  · exact h 0 ⟨by omega, qs_011.mp hc, fun w _ _ => Nat.zero_le _⟩
  · refine ⟨V + 1, qs_bvl hp hn (qs_tf fun z => hc (qs_011.mpr z)) h (V + 1) V (by omega) (by omega) (fun w h1 h2 => qs_tf fun z => ?_)⟩
    have := hv w h2 z
    omega
end
section
/-! ===== push, narrow, propagate ===== -/
def qs_nc (P : Nat) (d r : Int32) : Prop := ¬ qs_sub d r ∧ ∀ p, qs_sole P (d &&& (r ^^^ (-1))) p → (d &&& r) &&& qs_g p = 0
def qs_ri (P F : Nat) (k : Int32) (fb : Nat → Int32) (rc fr : Nat) (ru : Nat → Int32) : Prop := fr ≤ rc ∧ rc ≤ 84 ∧ fr ≤ 20 ∧ (∀ i, i < rc → qs_rule P F k fb (ru i)) ∧ ∀ f, f < F → bt k f = true → ∃ i, i < fr ∧ ru i = fb f
section
variable {fP fV fC al fF mu hsu sP sL sH st rP rV so bl de hlr lb rc fr ol rf dm ts lv : Int32} {aff afb anb aru atc atr ald alt : Nat → Int32} {P V F t L : Nat} {k D0 : Int32}
theorem qs_push {post : SX → Prop} (ht : t < 32) {c r : Int32} (h : post (fP, fV, fC, al, fF, mu, hsu, sP, sL, sH, st, rP, rV, so, bl, de, hlr, lb, rc, fr, ol, rf, dm &&& (c ^^^ (-1)), nI (t + 1), lv, aff, afb, anb, aru, upd atc t c, upd atr t r, ald, alt)) : wpX_push post (fP, fV, fC, al, fF, mu, hsu, sP, sL, sH, st, rP, rV, so, bl, de, hlr, lb, rc, fr, ol, rf, dm, nI t, lv, aff, afb, anb, aru, atc, atr, ald, alt) c r := by
  refine nm_e ?_
  refine pk_le 32 t (fun z => absurd z (by omega)) (fun _ => ?_)
  refine ⟨pk_in t 32 ht, nm_r (e' := upd atc t c) (by rw [nI_clamp (by omega)]) ?_⟩
  refine ⟨pk_in t 32 ht, nm_r (e' := upd atr t r) (by rw [nI_clamp (by omega)]) ?_⟩
  exact nm_r (nI_1 t) h
/-- one rule's cut put on the trail -/
theorem qs_tr_put {tc tr ld lt : Nat → Int32} {d r : Int32} {p : Nat} (hP : P ≤ 6) (h : qs_tr P F k afb D0 tc tr ld lt t d L) (hr : qs_rule P F k afb r) (hs : qs_sole P (d &&& (r ^^^ (-1))) p) (hc : ¬ (d &&& r) &&& qs_g p = 0) : qs_tr P F k afb D0 (upd tc t ((d &&& r) &&& qs_g p)) (upd tr t r) ld lt (t + 1) (d &&& (((d &&& r) &&& qs_g p) ^^^ (-1))) L := by
  refine ⟨d, by rw [pk_us], by rw [pk_us]; exact fun i hi h => (qs_at.mp (qs_at.mp h).1).1, by rw [pk_us]; exact hc, p, hs.1, by rw [pk_us]; exact fun i hi h => (qs_at.mp h).2, Or.inl ⟨by rw [pk_us]; exact hr, ?_, by rw [pk_us]; exact hs.2.2, ?_⟩⟩
  · rw [pk_us, pk_us]; exact fun i hi h => (qs_at.mp (qs_at.mp h).1).2
  · exact qs_tr_fr t d L (fun i hi => pk_un (by omega)) (fun i hi => pk_un (by omega)) (fun _ _ => rfl) (fun _ _ => rfl) h
theorem qs_put_ne {d r : Int32} {p : Nat} (hP : P ≤ 6) (hn : qs_ne P d) (hs : qs_sole P (d &&& (r ^^^ (-1))) p) : qs_ne P (d &&& (((d &&& r) &&& qs_g p) ^^^ (-1))) := by
  intro q hq
  by_cases e : q = p
  · obtain ⟨i, hi, hb⟩ := qs_nz.mp hs.2.1
    have hg := (qs_gt (by have := hs.1; omega) hi).mp (hs.2.2 i hi hb)
    have hb' := (qs_ant hi).mp hb
    refine ⟨i - p * 5, by omega, ?_⟩
    rw [e, show p * 5 + (i - p * 5) = i from by omega]
    refine (qs_ant hi).mpr ⟨hb'.1, qs_tf fun z => ?_⟩
    have := (qs_at.mp (qs_at.mp z).1).2
    rw [hb'.2] at this
    exact absurd this (by decide)
  · obtain ⟨v, hv, hb⟩ := hn q hq
    refine ⟨v, hv, (qs_ant (by omega)).mpr ⟨hb, qs_tf fun z => ?_⟩⟩
    have := (qs_gt (by have := hs.1; omega) (by omega)).mp (qs_at.mp z).2
    omega
theorem qs_tb (hP : P ≤ 6) (hD : qs_reg P V D0) {tc tr ld lt : Nat → Int32} {d : Int32} (h : qs_tr P F k afb D0 tc tr ld lt t d L) : t < 32 ∧ qs_c d ≤ 30 := by
  have h1 := qs_tr_cnt t d L h
  have h2 := qs_c_up hD
  omega
theorem qs_narrow {post : Int32 → SX → Prop} (hP : P ≤ 6) (hD : qs_reg P V D0) {r : Int32} (h : qs_tr P F k afb D0 atc atr ald alt t dm L) (hn : qs_ne P dm) (hr : qs_rule P F k afb r)
    (h0 : qs_sub dm r → post 0 (nI P, fV, fC, al, fF, mu, hsu, sP, sL, sH, st, rP, rV, so, bl, de, hlr, lb, rc, fr, ol, rf, dm, nI t, lv, aff, afb, anb, aru, atc, atr, ald, alt))
    (h1 : qs_nc P dm r → post 1 (nI P, fV, fC, al, fF, mu, hsu, sP, sL, sH, st, rP, rV, so, bl, de, hlr, lb, rc, fr, ol, rf, dm, nI t, lv, aff, afb, anb, aru, atc, atr, ald, alt))
    (h2 : ∀ dm' t' tc' tr', qs_tr P F k afb D0 tc' tr' ald alt t' dm' L → qs_ne P dm' → qs_sub dm' dm → qs_c dm' < qs_c dm → post 1 (nI P, fV, fC, al, fF, mu, hsu, sP, sL, sH, st, rP, rV, so, bl, de, hlr, lb, rc, fr, ol, rf, dm', nI t', lv, aff, afb, anb, aru, tc', tr', ald, alt)) :
    wpX_narrow post (nI P, fV, fC, al, fF, mu, hsu, sP, sL, sH, st, rP, rV, so, bl, de, hlr, lb, rc, fr, ol, rf, dm, nI t, lv, aff, afb, anb, aru, atc, atr, ald, alt) r := by
  refine nm_e (br_c (fun hz => h0 (qs_subZ.mp hz)) (fun hz => ?_))
  refine qs_sg hP rfl (fun g hg => ?_)
  refine nm_e (br_c (fun hc => ?_) (fun hc => ?_))
  · refine h1 ⟨fun z => hz (qs_subZ.mpr z), fun p hp => ?_⟩
    rw [← qs_SG_p hP hg hp]
    exact hc
  · rcases hg with ⟨e, _⟩ | ⟨p, hp, e⟩
    · exact absurd (qs_and0.mpr fun i _ _ => by rw [e]; exact b_0 i) hc
    · subst e
      refine qs_push (qs_tb hP hD h).1 ?_
      refine h2 _ _ _ _ (qs_tr_put hP h hr hp hc) (qs_put_ne hP hn hp) qs_ans ?_
      obtain ⟨i, hi, hb⟩ := qs_nz.mp hc
      refine qs_c_lt qs_ans hi (qs_at.mp (qs_at.mp hb).1).1 (qs_tf fun z => ?_)
      rw [((qs_ant hi).mp z).2] at hb
      exact absurd hb (by decide)
theorem qs_pr22 {post : Int32 → SX → Prop} {J : Int32 → Int32 → Int32 → Int32 → Int32 → Int32 → Int32 → Int32 → Int32 → Int32 → Int32 → Int32 → Int32 → Int32 → Int32 → Int32 → Int32 → Int32 → Int32 → Int32 → Int32 → Int32 → Int32 → Int32 → Int32 → Int32 → Int32 → (Nat → Int32) → (Nat → Int32) → (Nat → Int32) → (Nat → Int32) → (Nat → Int32) → (Nat → Int32) → (Nat → Int32) → (Nat → Int32) → Prop} {x2 x3 : Int32} {c : Nat} (hP : P ≤ 6) (hD : qs_reg P V D0) (hc84 : c ≤ 84) (hru : ∀ i, i < c → qs_rule P F k afb (aru i))
    (hcf : ∀ r dm' t' tc' tr', qs_tr P F k afb D0 tc' tr' ald alt t' dm' L → qs_ne P dm' → qs_rule P F k afb r → qs_sub dm' r → post r (nI P, fV, fC, al, fF, mu, hsu, sP, sL, sH, st, rP, rV, so, bl, de, hlr, lb, nI c, fr, ol, rf, dm', nI t', lv, aff, afb, anb, aru, tc', tr', ald, alt))
    (hJ0 : ∀ t' tc' tr', qs_tr P F k afb D0 tc' tr' ald alt t' x3 L → qs_ne P x3 → (∀ i, i < c → qs_nc P x3 (aru i)) → J 0 (x2 + 1) (nI P) fV fC al fF mu hsu sP sL sH st rP rV so bl de hlr lb (nI c) fr ol rf x3 (nI t') lv aff afb anb aru tc' tr' ald alt)
    (hJ1 : ∀ dm' t' tc' tr', qs_tr P F k afb D0 tc' tr' ald alt t' dm' L → qs_ne P dm' → qs_sub dm' x3 → qs_c dm' < qs_c x3 → J 1 (x2 + 1) (nI P) fV fC al fF mu hsu sP sL sH st rP rV so bl de hlr lb (nI c) fr ol rf dm' (nI t') lv aff afb anb aru tc' tr' ald alt) :
    ∀ n i dm t atc atr, c < n + i → i ≤ c → qs_tr P F k afb D0 atc atr ald alt t dm L → qs_ne P dm → ((dm = x3 ∧ ∀ j, j < i → qs_nc P dm (aru j)) ∨ (qs_sub dm x3 ∧ qs_c dm < qs_c x3)) → wX_propagate_22 post J x2 x3 n (nI i) (nI P) fV fC al fF mu hsu sP sL sH st rP rV so bl de hlr lb (nI c) fr ol rf dm (nI t) lv aff afb anb aru atc atr ald alt := by
  intro n
  induction n with
  | zero => intro i dm t atc atr h1 h2; omega
  | succ n ih =>
    intro i dm t atc atr h1 h2 htr hne hcase
    refine pk_le c i (fun hle => ?_) (fun hlt => ?_)
    · refine br_c (fun he => nm_e ?_) (fun he => nm_e ?_)
      · rcases hcase with ⟨_, hj⟩ | ⟨_, hl⟩
        · subst he
          exact hJ0 _ _ _ htr hne (fun j hj' => hj j (by omega))
        · rw [he] at hl; omega
      · rcases hcase with ⟨hj, _⟩ | ⟨hs, hl⟩
        · exact absurd hj he
        · exact hJ1 _ _ _ _ htr hne hs hl
    · refine ⟨pk_in i 84 (by omega), ?_⟩
      have ei : (nI i).toNatClampNeg = i := nI_clamp (by omega)
      rw [ei]
      refine qs_narrow hP hD htr hne (hru i hlt) (fun hs => ?_) (fun hnc => ?_) (fun dm' t' tc' tr' g1 g2 g3 g4 => ?_)
      · exact br_t rfl ⟨pk_in i 84 (by omega), hcf _ _ _ _ _ htr hne (hru i hlt) hs⟩
      · refine br_f (by decide) (nm_r (nI_1 i) ?_)
        refine ih (i + 1) dm t atc atr (by omega) (by omega) htr hne ?_
        rcases hcase with ⟨e, hj⟩ | h
        · exact Or.inl ⟨e, lt_s hj hnc⟩
        · exact Or.inr h
      · refine br_f (by decide) (nm_r (nI_1 i) ?_)
        refine ih (i + 1) dm' t' tc' tr' (by omega) (by omega) g1 g2 (Or.inr ?_)
        rcases hcase with ⟨e, hj⟩ | ⟨hs, hl⟩
        · rw [← e]; exact ⟨g3, g4⟩
        · exact ⟨qs_sub_t g3 hs, by omega⟩
theorem qs_pr4 {post : Int32 → SX → Prop} {c : Nat} (hP2 : 1 ≤ P) (hP : P ≤ 6) (hD : qs_reg P V D0) (hc84 : c ≤ 84) (hru : ∀ i, i < c → qs_rule P F k afb (aru i)) {d0 : Int32}
    (hcf : ∀ r dm' t' tc' tr', qs_tr P F k afb D0 tc' tr' ald alt t' dm' L → qs_ne P dm' → qs_rule P F k afb r → qs_sub dm' r → post r (nI P, fV, fC, al, fF, mu, hsu, sP, sL, sH, st, rP, rV, so, bl, de, hlr, lb, nI c, fr, ol, rf, dm', nI t', lv, aff, afb, anb, aru, tc', tr', ald, alt))
    (hnc : ∀ dm' t' tc' tr', qs_tr P F k afb D0 tc' tr' ald alt t' dm' L → qs_ne P dm' → qs_sub dm' d0 → (∀ i, i < c → qs_nc P dm' (aru i)) → post (-1) (nI P, fV, fC, al, fF, mu, hsu, sP, sL, sH, st, rP, rV, so, bl, de, hlr, lb, nI c, fr, ol, rf, dm', nI t', lv, aff, afb, anb, aru, tc', tr', ald, alt)) :
    ∀ n m dm t atc atr, qs_c dm < n → m + qs_c dm ≤ 31 → qs_tr P F k afb D0 atc atr ald alt t dm L → qs_ne P dm → qs_sub dm d0 → wX_propagate_4 post n 1 (nI m) (nI P) fV fC al fF mu hsu sP sL sH st rP rV so bl de hlr lb (nI c) fr ol rf dm (nI t) lv aff afb anb aru atc atr ald alt := by
  intro n
  induction n with
  | zero => intro m dm t atc atr h1; omega
  | succ n ih =>
    intro m dm t atc atr h1 h2 htr hne hs
    refine br_f (by decide) ?_
    refine pk_le 32 m (fun z => absurd z (by omega)) (fun _ => ?_)
    refine ⟨c + 1, qs_pr22 hP hD hc84 hru hcf (fun t' tc' tr' g1 g2 g3 => ?_) (fun dm' t' tc' tr' g1 g2 g3 g4 => ?_) (c + 1) 0 dm t atc atr (by omega) (by omega) htr hne (Or.inl ⟨rfl, fun j hj => by omega⟩)⟩
    · obtain ⟨n', rfl⟩ : ∃ n', n = n' + 1 := ⟨n - 1, by have := qs_c_ge hP hne; omega⟩
      exact br_t rfl (hnc _ _ _ _ g1 g2 hs g3)
    · rw [nI_1]
      exact ih (m + 1) dm' t' tc' tr' (by omega) (by omega) g1 g2 (qs_sub_t g3 hs)
theorem qs_prop {post : Int32 → SX → Prop} {c : Nat} (hP2 : 1 ≤ P) (hP : P ≤ 6) (hD : qs_reg P V D0) (hc84 : c ≤ 84) (hru : ∀ i, i < c → qs_rule P F k afb (aru i)) (htr : qs_tr P F k afb D0 atc atr ald alt t dm L) (hne : qs_ne P dm)
    (hcf : ∀ r dm' t' tc' tr', qs_tr P F k afb D0 tc' tr' ald alt t' dm' L → qs_ne P dm' → qs_rule P F k afb r → qs_sub dm' r → post r (nI P, fV, fC, al, fF, mu, hsu, sP, sL, sH, st, rP, rV, so, bl, de, hlr, lb, nI c, fr, ol, rf, dm', nI t', lv, aff, afb, anb, aru, tc', tr', ald, alt))
    (hnc : ∀ dm' t' tc' tr', qs_tr P F k afb D0 tc' tr' ald alt t' dm' L → qs_ne P dm' → qs_sub dm' dm → (∀ i, i < c → qs_nc P dm' (aru i)) → post (-1) (nI P, fV, fC, al, fF, mu, hsu, sP, sL, sH, st, rP, rV, so, bl, de, hlr, lb, nI c, fr, ol, rf, dm', nI t', lv, aff, afb, anb, aru, tc', tr', ald, alt)) :
    wpX_propagate post (nI P, fV, fC, al, fF, mu, hsu, sP, sL, sH, st, rP, rV, so, bl, de, hlr, lb, nI c, fr, ol, rf, dm, nI t, lv, aff, afb, anb, aru, atc, atr, ald, alt) :=
  ⟨qs_c dm + 1, qs_pr4 hP2 hP hD hc84 hru hcf hnc _ 0 dm t atc atr (by omega) (by have := (qs_tb hP hD htr).2; omega) htr hne (qs_sub_r _)⟩
end
end
section
/-! ===== decide, recover, search ===== -/
section
variable {fP fV fC al fF mu hsu sP sL sH st rP rV so bl de hlr lb rc fr ol rf dm ts lv : Int32} {aff afb anb aru atc atr ald alt : Nat → Int32} {P V F t L : Nat} {k D0 : Int32}
theorem qs_decide {post : SX → Prop} {p : Nat} (hP2 : 1 ≤ P) (hP : P ≤ 6) (hV : V ≤ 4) (hD : qs_reg P V D0) (h : qs_tr P F k afb D0 atc atr ald alt t dm L) (hn : qs_ne P dm) (hp : p < P) (ho : ¬ qs_cl dm p) (hcl : ∀ q, q < p → qs_cl dm q)
    (hpost : ∀ dm' tc' tr' ld' lt', qs_tr P F k afb D0 tc' tr' ld' lt' (t + 1) dm' (L + 1) → qs_ne P dm' → ld' (L + 1) = dm → (∀ l, l ≤ L → ld' l = ald l) → qs_c dm' < qs_c dm → post (nI P, nI V, fC, al, fF, mu, hsu, sP, sL, sH, st, rP, rV, so, bl, de, hlr, lb, rc, fr, ol, rf, dm', nI (t + 1), nI (L + 1), aff, afb, anb, aru, tc', tr', ld', lt')) :
    wpX_decide post (nI P, nI V, fC, al, fF, mu, hsu, sP, sL, sH, st, rP, rV, so, bl, de, hlr, lb, rc, fr, ol, rf, dm, nI t, nI L, aff, afb, anb, aru, atc, atr, ald, alt) (nI p) := by
  have hLp : L ≤ p := by
    apply Classical.byContradiction
    intro z
    exact ho ((qs_tr_lv hP t dm L h).2 p (by omega))
  have hsub := qs_tr_sub t dm L h
  refine pk_lt (L + 1) 8 (fun _ => ?_) (fun z => absurd z (by omega)) (hx := nI_1 L)
  refine qs_bv hV rfl (by omega) (hn p hp) (fun v hv hb => ?_) (fun v hv => ?_)
  · have := (hD _ (by omega) (hsub _ (by omega) hb)).2
    omega
  refine nm_r (e' := qs_b p v) (by rw [qs_5v]; rfl) ?_
  refine nm_r (e' := (dm &&& qs_g p) &&& (qs_b p v ^^^ (-1))) (by rw [qs_5]; rfl) ?_
  refine nm_r (nI_1 L) ?_
  refine ⟨pk_in (L + 1) 8 (by omega), nm_r (e' := upd ald (L + 1) dm) (by rw [nI_clamp (by omega)]) ?_⟩
  refine ⟨pk_in (L + 1) 8 (by omega), nm_r (e' := upd alt (L + 1) (nI t)) (by rw [nI_clamp (by omega)]) ?_⟩
  refine qs_push (qs_tb hP hD h).1 ?_
  have hv5 := hv.1
  have hcb : ∀ i, i < 32 → (bt ((dm &&& qs_g p) &&& (qs_b p v ^^^ (-1))) i = true ↔ bt dm i = true ∧ (p * 5 ≤ i ∧ i < p * 5 + 5) ∧ i ≠ p * 5 + v) := by
    intro i hi
    rw [qs_ant hi, qs_at, qs_gt (by omega) hi, qs_bb (by omega) hi, and_assoc]
    simp
  have hcg : qs_sub ((dm &&& qs_g p) &&& (qs_b p v ^^^ (-1))) (qs_g p) := fun i hi hb => (qs_gt (by omega) hi).mpr ((hcb i hi).mp hb).2.1
  have hcd : qs_sub ((dm &&& qs_g p) &&& (qs_b p v ^^^ (-1))) dm := fun i hi hb => ((hcb i hi).mp hb).1
  have hcn : ∃ i, i < 32 ∧ bt ((dm &&& qs_g p) &&& (qs_b p v ^^^ (-1))) i = true := by
    apply Classical.byContradiction
    intro hno
    refine ho fun a b ha hb h1 h2 => ?_
    have hw : ∀ w, w < 5 → bt dm (p * 5 + w) = true → w = v := by
      intro w hw5 hb
      apply Classical.byContradiction
      intro hne
      exact hno ⟨p * 5 + w, by omega, (hcb _ (by omega)).mpr ⟨hb, by omega, by omega⟩⟩
    rw [hw a ha h1, hw b hb h2]
  refine hpost _ _ _ _ _ ?_ ?_ pk_us (fun l hl => pk_un (by omega)) ?_
  · refine ⟨dm, by rw [pk_us], by rw [pk_us]; exact hcd, by rw [pk_us]; exact qs_nz.mpr hcn, p, hp, by rw [pk_us]; exact hcg, Or.inr ⟨by rw [pk_us], L, rfl, by rw [pk_us], by rw [pk_us], ?_, ?_⟩⟩
    · rw [pk_us]
      refine ⟨hcl, v, hv, fun w hw hne hb => (hcb _ (by omega)).mpr ⟨hb, by omega, by omega⟩, qs_tf fun z => ?_⟩
      exact ((hcb _ (by omega)).mp z).2.2 rfl
    · exact qs_tr_fr t dm L (fun i hi => pk_un (by omega)) (fun i hi => pk_un (by omega)) (fun l hl => pk_un (by omega)) (fun l hl => pk_un (by omega)) h
  · intro q hq
    by_cases e : q = p
    · refine ⟨v, hv5, (qs_ant (by omega)).mpr ⟨by rw [e]; exact hv.2.1, qs_tf fun z => ?_⟩⟩
      rw [e] at z
      exact ((hcb _ (by omega)).mp z).2.2 rfl
    · obtain ⟨w, hw, hb⟩ := hn q hq
      refine ⟨w, hw, (qs_ant (by omega)).mpr ⟨hb, qs_tf fun z => ?_⟩⟩
      have := ((hcb _ (by omega)).mp z).2.1
      omega
  · obtain ⟨i, hi, hb⟩ := hcn
    refine qs_c_lt qs_ans hi (hcd i hi hb) (qs_tf fun z => ?_)
    rw [((qs_ant hi).mp z).2] at hb
    exact absurd hb (by decide)
/-! keepRule, jumpBack -/
theorem qs_keep64 {post : SX → Prop} {fr' o : Nat} {box : Int32} (hr : qs_rule P F k afb box) (hi : qs_ri P F k afb 84 fr' aru) (ho : o < 84) (hf : fr' ≤ o)
    (h : ∀ rc2 ol2 ru2, qs_ri P F k afb rc2 fr' ru2 → (∃ i, i < rc2 ∧ ru2 i = box) → post (fP, fV, fC, al, fF, mu, hsu, sP, sL, sH, st, rP, rV, so, bl, de, hlr, lb, nI rc2, nI fr', ol2, rf, dm, ts, lv, aff, afb, anb, ru2, atc, atr, ald, alt)) :
    wX_keepRule_64 post box fP fV fC al fF mu hsu sP sL sH st rP rV so bl de hlr lb (nI 84) (nI fr') (nI o) rf dm ts lv aff afb anb aru atc atr ald alt := by
  refine ⟨pk_in o 84 ho, nm_r (e' := upd aru o box) (by rw [nI_clamp (by omega)]) (nm_e ?_)⟩
  refine h 84 _ _ ⟨hi.1, hi.2.1, hi.2.2.1, fun i hi' => ?_, fun f hf' hk => ?_⟩ ⟨o, ho, pk_us⟩
  · by_cases e : i = o
    · rw [e, pk_us]; exact hr
    · rw [pk_un e]; exact hi.2.2.2.1 i hi'
  · obtain ⟨i, h1, h2⟩ := hi.2.2.2.2 f hf' hk
    exact ⟨i, h1, by rw [pk_un (by omega)]; exact h2⟩
theorem qs_keep {post : SX → Prop} {c fr' : Nat} {box : Int32} (hr : qs_rule P F k afb box) (hi : qs_ri P F k afb c fr' aru)
    (h : ∀ rc2 ol2 ru2, qs_ri P F k afb rc2 fr' ru2 → (∃ i, i < rc2 ∧ ru2 i = box) → post (fP, fV, fC, al, fF, mu, hsu, sP, sL, sH, st, rP, rV, so, bl, de, hlr, lb, nI rc2, nI fr', ol2, rf, dm, ts, lv, aff, afb, anb, ru2, atc, atr, ald, alt)) :
    wpX_keepRule post (fP, fV, fC, al, fF, mu, hsu, sP, sL, sH, st, rP, rV, so, bl, de, hlr, lb, nI c, nI fr', ol, rf, dm, ts, lv, aff, afb, anb, aru, atc, atr, ald, alt) box := by
  have hc84 := hi.2.1
  have hf20 := hi.2.2.1
  refine pk_le 84 c (fun hle => ?_) (fun hlt => ?_)
  · have e : c = 84 := by omega
    subst e
    have h56 : wX_keepRule_56 post box fP fV fC al fF mu hsu sP sL sH st rP rV so bl de hlr lb (nI 84) (nI fr') ol rf dm ts lv aff afb anb aru atc atr ald alt := qs_keep64 hr hi (by omega) (Nat.le_refl _) h
    refine br_c (fun _ => h56) (fun hn => br_c (fun ho => ?_) (fun _ => h56))
    have h0 : ¬ ol < 0 := fun z => hn (Int32.lt_of_lt_of_le z (nI_pos' (by omega)))
    obtain ⟨o, ho31, rfl⟩ := nI_of h0
    have ho84 : o < 84 := (nI_ltI ho31 (by omega)).mp ho
    have hof : fr' ≤ o := by
      apply Classical.byContradiction
      intro z
      exact hn ((nI_ltI ho31 (by omega)).mpr (by omega))
    exact qs_keep64 hr hi ho84 hof h
  · refine ⟨pk_in c 84 hlt, nm_r (e' := upd aru c box) (by rw [nI_clamp (by omega)]) (nm_r (nI_1 c) ?_)⟩
    refine h (c + 1) _ _ ⟨by have := hi.1; omega, by omega, hf20, fun i hi' => ?_, fun f hf' hk => ?_⟩ ⟨c, by omega, pk_us⟩
    · by_cases e : i = c
      · rw [e, pk_us]; exact hr
      · rw [pk_un e]; exact hi.2.2.2.1 i (by omega)
    · obtain ⟨i, h1, h2⟩ := hi.2.2.2.2 f hf' hk
      exact ⟨i, h1, by rw [pk_un (by have := hi.1; omega)]; exact h2⟩
theorem qs_jb46 {post : SX → Prop} {m : Nat} (hm : m < 7) (h : post (fP, fV, fC, al, fF, mu, hsu, sP, sL, sH, st, rP, rV, so, bl, de, hlr, lb, rc, fr, ol, rf, ald (m + 1), alt (m + 1), nI m, aff, afb, anb, aru, atc, atr, ald, alt)) : wX_jumpBack_46 post (nI (m + 1)) fP fV fC al fF mu hsu sP sL sH st rP rV so bl de hlr lb rc fr ol rf dm ts lv aff afb anb aru atc atr ald alt := by
  refine ⟨pk_in (m + 1) 8 (by omega), nm_r (e' := ald (m + 1)) (by rw [nI_clamp (by omega)]) ?_⟩
  refine ⟨pk_in (m + 1) 8 (by omega), nm_r (e' := alt (m + 1)) (by rw [nI_clamp (by omega)]) ?_⟩
  exact nm_r (nI_pred m) h
theorem qs_jb7 {post : SX → Prop} (hP : P ≤ 6) {box : Int32} {m0 : Nat} (hm0 : m0 < 7)
    (h : ∀ m, m ≤ m0 → (∃ p, qs_sole P (ald (m + 1) &&& (box ^^^ (-1))) p) → post (nI P, fV, fC, al, fF, mu, hsu, sP, sL, sH, st, rP, rV, so, bl, de, hlr, lb, rc, fr, ol, rf, ald (m + 1), alt (m + 1), nI m, aff, afb, anb, aru, atc, atr, ald, alt)) :
    ∀ n m, m < n → m ≤ m0 → (∃ p, qs_sole P (ald (m + 1) &&& (box ^^^ (-1))) p) → wX_jumpBack_7 post box (nI P) fV fC al fF mu hsu sP sL sH st rP rV so bl de hlr lb rc fr ol rf dm ts lv aff afb anb aru atc atr ald alt n (nI (m + 1)) (nI m) := by
  intro n
  induction n with
  | zero => intro m h1; omega
  | succ n ih =>
    intro m hn hm hs
    refine pk_le m 0 (fun _ => qs_jb46 (by omega) (h m hm hs)) (fun hlt => ?_)
    refine ⟨pk_in m 8 (by omega), nm_r (e' := ald m &&& (box ^^^ (-1))) (by rw [nI_clamp (by omega)]) ?_⟩
    refine qs_sg hP rfl (fun r hr => ?_)
    refine br_c (fun _ => qs_jb46 (by omega) (h m hm hs)) (fun hz => ?_)
    obtain ⟨m', rfl⟩ : ∃ m', m = m' + 1 := ⟨m - 1, by omega⟩
    refine nm_r (pk_m1 m') ?_
    exact ih m' (by omega) (by omega) (qs_SG_n hr hz)
theorem qs_jb {post : SX → Prop} (hP : P ≤ 6) {box : Int32} {m0 : Nat} (hm0 : m0 < 7) (hs : ∃ p, qs_sole P (ald (m0 + 1) &&& (box ^^^ (-1))) p)
    (h : ∀ m, m ≤ m0 → (∃ p, qs_sole P (ald (m + 1) &&& (box ^^^ (-1))) p) → post (nI P, fV, fC, al, fF, mu, hsu, sP, sL, sH, st, rP, rV, so, bl, de, hlr, lb, rc, fr, ol, rf, ald (m + 1), alt (m + 1), nI m, aff, afb, anb, aru, atc, atr, ald, alt)) :
    wpX_jumpBack post (nI P, fV, fC, al, fF, mu, hsu, sP, sL, sH, st, rP, rV, so, bl, de, hlr, lb, rc, fr, ol, rf, dm, ts, lv, aff, afb, anb, aru, atc, atr, ald, alt) box (nI (m0 + 1)) := by
  refine nm_r (nI_pred m0) ⟨m0 + 1, ?_⟩
  exact qs_jb7 hP hm0 h (m0 + 1) m0 (by omega) (Nat.le_refl _) hs
theorem qs_pm (x : Int32) : x + (-1) = x - 1 := (Int32.sub_eq_add_neg x 1).symm
theorem qs_recl {post : Int32 → SX → Prop} {c fr' L0 : Nat} (hP : P ≤ 6) (hD : qs_reg P V D0) (hi : qs_ri P F k afb c fr' aru)
    (h0 : (¬ ∃ a, qs_sol P F k afb D0 a) → post 0 (nI P, fV, fC, al, fF, mu, hsu, sP, sL, sH, st, rP, rV, so, bl, de, hlr, lb, nI c, nI fr', ol, rf, dm, ts, lv, aff, afb, anb, aru, atc, atr, ald, alt))
    (h1 : ∀ m t' rc2 ol2 ru2, m < L0 → qs_ri P F k afb rc2 fr' ru2 → qs_tr P F k afb D0 atc atr ald alt t' (ald (m + 1)) m → qs_ne P (ald (m + 1)) → (∃ i, i < rc2 ∧ ¬ qs_nc P (ald (m + 1)) (ru2 i)) → P < qs_c (ald (m + 1)) → post 1 (nI P, fV, fC, al, fF, mu, hsu, sP, sL, sH, st, rP, rV, so, bl, de, hlr, lb, nI rc2, nI fr', ol2, rf, ald (m + 1), nI t', nI m, aff, afb, anb, ru2, atc, atr, ald, alt)) :
    ∀ t n L d box, t < n → L ≤ L0 → qs_tr P F k afb D0 atc atr ald alt t d L → qs_ne P d → qs_rule P F k afb box → qs_sub d box → wX_recover_15 post (nI P) fV fC al fF mu hsu sP sL sH st rP rV so bl de hlr lb (nI c) (nI fr') ol rf dm ts lv aff afb anb aru atc atr ald alt n box (nI L) (nI t - 1) := by
  intro t
  induction t with
  | zero =>
    intro n L d box hn hL htr hne hrule hsub
    obtain ⟨m, rfl⟩ : ∃ m, n = m + 1 := ⟨n - 1, by omega⟩
    have eL : L = 0 := htr.2
    subst eL
    exact br_t (by decide) (h0 (qs_tr_no hP htr hrule hsub))
  | succ t ih =>
    intro n L d box hn hL htr hne hrule hsub
    obtain ⟨m, rfl⟩ : ∃ m, n = m + 1 := ⟨n - 1, by omega⟩
    have hlv := (qs_tr_lv hP _ _ _ htr).1
    have htb := (qs_tb hP hD htr).1
    rw [nI_pred]
    refine br_f (nI_pos (by omega)) ?_
    refine pk_le L 0 (fun h => ?_) (fun h => ?_)
    · have eL : L = 0 := by omega
      subst eL
      exact h0 (qs_tr_no hP htr hrule hsub)
    · refine ⟨pk_in L 8 (by omega), nm_r (e' := ald L &&& (box ^^^ (-1))) (by rw [nI_clamp (by omega)]) ?_⟩
      refine qs_sg hP rfl (fun r hr => ?_)
      refine br_c (fun hz => ?_) (fun hz => ?_)
      · have hno := qs_SG_0 hP hr hz
        refine ⟨pk_in t 32 (by omega), nm_r (e' := atc t) (by rw [nI_clamp (by omega)]) ?_⟩
        refine ⟨pk_in t 32 (by omega), nm_r (e' := atr t) (by rw [nI_clamp (by omega)]) ?_⟩
        obtain ⟨d', e, hs, hcz, p, hp, hg, hcase⟩ := htr
        have hsd : qs_sub d d' := by rw [e]; exact qs_ans
        have hne' : qs_ne P d' := qs_ne_m hP hsd hne
        rcases hcase with ⟨a1, a2, a3, a4⟩ | ⟨a1, L', a2, a3, a4, a5, a6⟩
        · refine br_t (qs_nn a1.1) ?_
          refine br_c (fun hc => ?_) (fun hc => ?_)
          · refine nm_r (qs_pm _) ?_
            exact ih m L d' box (by omega) hL a4 hne' hrule (qs_back e (qs_subZ.mp hc) hsub)
          · refine qs_sg hP rfl (fun r2 hr2 => ?_)
            have e2 : r2 = qs_g p := qs_SG_p hP hr2 ⟨hp, hcz, hg⟩
            subst e2
            refine nm_r (qs_pm _) ?_
            exact ih m L d' (qs_res box (atr t) (qs_g p)) (by omega) hL a4 hne' (qs_res_rule hP hp hrule a1) (qs_res_sub e hg a2 a3 hsub)
        · refine br_f (by rw [a1]; decide) ?_
          subst a2
          refine nm_r (pk_m1 L') (nm_r (qs_pm _) ?_)
          have hb' : qs_sub d' box := by
            rw [a3] at hno
            apply Classical.byContradiction
            intro hnb
            refine hno ⟨p, hp, fun z => hnb (qs_subZ.mp z), fun i hi' hb => ?_⟩
            have hb2 := (qs_ant hi').mp hb
            apply Classical.byContradiction
            intro hng
            have : bt d i = true := by
              rw [e]
              exact (qs_ant hi').mpr ⟨hb2.1, qs_tf fun z => hng (hg i hi' z)⟩
            rw [hsub i hi' this] at hb2
            exact absurd hb2.2 (by decide)
          exact ih m L' d' box (by omega) (by omega) a6 hne' hrule hb'
      · obtain ⟨m0, rfl⟩ : ∃ m0, L = m0 + 1 := ⟨L - 1, by omega⟩
        refine qs_keep hrule hi (fun rc2 ol2 ru2 hri hin => ?_)
        refine qs_jb hP (by omega) (qs_SG_n hr hz) (fun m' hm' hsole => ?_)
        obtain ⟨t', ht', b1, b2, b3, b4⟩ := qs_tr_lev hP _ _ _ htr (m' + 1) (by omega) (by omega)
        have hne' : qs_ne P (ald (m' + 1)) := qs_ne_m hP b3 hne
        rw [b1]
        refine h1 m' t' rc2 ol2 ru2 (by omega) hri b2 hne' ?_ (by have := qs_c_ge hP hne; omega)
        obtain ⟨i, hi', ei⟩ := hin
        refine ⟨i, hi', fun hnc => ?_⟩
        rw [ei] at hnc
        obtain ⟨p, hp⟩ := hsole
        obtain ⟨v, hv, hb⟩ := hne p hp.1
        have hp6 := hp.1
        have h3 := qs_and0.mp (hnc.2 p hp) (p * 5 + v) (by omega) (qs_at.mpr ⟨b3 _ (by omega) hb, hsub _ (by omega) hb⟩)
        rw [(qs_gt (by omega) (by omega)).mpr (by omega)] at h3
        exact absurd h3 (by decide)
theorem qs_rec {post : Int32 → SX → Prop} {c fr' : Nat} {box : Int32} (hP : P ≤ 6) (hD : qs_reg P V D0) (hi : qs_ri P F k afb c fr' aru) (htr : qs_tr P F k afb D0 atc atr ald alt t dm L) (hne : qs_ne P dm) (hr : qs_rule P F k afb box) (hs : qs_sub dm box)
    (h0 : (¬ ∃ a, qs_sol P F k afb D0 a) → post 0 (nI P, fV, fC, al, fF, mu, hsu, sP, sL, sH, st, rP, rV, so, bl, de, hlr, lb, nI c, nI fr', ol, rf, dm, nI t, nI L, aff, afb, anb, aru, atc, atr, ald, alt))
    (h1 : ∀ m t' rc2 ol2 ru2, m < L → qs_ri P F k afb rc2 fr' ru2 → qs_tr P F k afb D0 atc atr ald alt t' (ald (m + 1)) m → qs_ne P (ald (m + 1)) → (∃ i, i < rc2 ∧ ¬ qs_nc P (ald (m + 1)) (ru2 i)) → P < qs_c (ald (m + 1)) → post 1 (nI P, fV, fC, al, fF, mu, hsu, sP, sL, sH, st, rP, rV, so, bl, de, hlr, lb, nI rc2, nI fr', ol2, rf, ald (m + 1), nI t', nI m, aff, afb, anb, ru2, atc, atr, ald, alt)) :
    wpX_recover post (nI P, fV, fC, al, fF, mu, hsu, sP, sL, sH, st, rP, rV, so, bl, de, hlr, lb, nI c, nI fr', ol, rf, dm, nI t, nI L, aff, afb, anb, aru, atc, atr, ald, alt) box :=
  nm_e ⟨t + 1, qs_recl hP hD hi h0 h1 t (t + 1) L dm box (by omega) (Nat.le_refl _) htr hne hr hs⟩
end
end
section
/-! ===== the search loop, loadRules, search ===== -/
def qs_pot (P : Nat) (ld : Nat → Int32) : Nat → Nat
  | 0 => 0
  | l + 1 => qs_pot P ld l + (2 ^ (qs_c (ld (l + 1)) - P) - 1)
theorem qs_pot_eq {P : Nat} {ld ld' : Nat → Int32} : ∀ L, (∀ l, l ≤ L → ld' l = ld l) → qs_pot P ld' L = qs_pot P ld L
  | 0, _ => rfl
  | L + 1, h => by
    show qs_pot P ld' L + (2 ^ (qs_c (ld' (L + 1)) - P) - 1) = qs_pot P ld L + (2 ^ (qs_c (ld (L + 1)) - P) - 1)
    rw [qs_pot_eq L (fun l hl => h l (by omega)), h (L + 1) (Nat.le_refl _)]
theorem qs_pot_le {P : Nat} {ld : Nat → Int32} (m : Nat) : ∀ j, qs_pot P ld m ≤ qs_pot P ld (m + j)
  | 0 => Nat.le_refl _
  | j + 1 => Nat.le_trans (qs_pot_le m j) (Nat.le_add_right _ _)
theorem qs_pw {a b : Nat} (h : a < b) : 2 ^ (a + 1) ≤ 2 ^ b := Nat.pow_le_pow_right (by omega) h
section
variable {fP fV fC al fF mu hsu sP sL sH st rP rV so bl de hlr lb rc fr ol rf dm ts lv : Int32} {aff afb anb aru atc atr ald alt : Nat → Int32} {P V F : Nat} {k D0 : Int32}
theorem qs_s22 {post : Int32 → SX → Prop} {fr' : Nat} (hP2 : 1 ≤ P) (hP : P ≤ 6) (hV : V ≤ 4) (hD : qs_reg P V D0)
    (h1 : ∀ rc ol aru dm ts lv atc atr ald alt, qs_ri P F k afb rc fr' aru → qs_best P F k afb D0 (qs_val dm) → qs_ne P dm → (∀ q, q < P → qs_cl dm q) → qs_sub dm D0 → post 1 (nI P, nI V, fC, al, fF, mu, hsu, sP, sL, sH, st, rP, rV, so, bl, de, hlr, lb, nI rc, nI fr', ol, rf, dm, ts, lv, aff, afb, anb, aru, atc, atr, ald, alt))
    (h0 : ∀ rc ol aru dm ts lv atc atr ald alt, qs_ri P F k afb rc fr' aru → (¬ ∃ a, qs_sol P F k afb D0 a) → post 0 (nI P, nI V, fC, al, fF, mu, hsu, sP, sL, sH, st, rP, rV, so, bl, de, hlr, lb, nI rc, nI fr', ol, rf, dm, ts, lv, aff, afb, anb, aru, atc, atr, ald, alt)) :
    ∀ n step B c ol aru dm t L atc atr ald alt, qs_pot P ald L + B < n → step + qs_pot P ald L + B ≤ 67108863 → 1 ≤ B → qs_ri P F k afb c fr' aru → qs_tr P F k afb D0 atc atr ald alt t dm L → qs_ne P dm → (2 ^ (qs_c dm - P + 1) ≤ B + 1 ∨ (2 ^ (qs_c dm - P) ≤ B + 1 ∧ ∃ i, i < c ∧ ¬ qs_nc P dm (aru i))) → wX_search_22 post n (nI step) (nI P) (nI V) fC al fF mu hsu sP sL sH st rP rV so bl de hlr lb (nI c) (nI fr') ol rf dm (nI t) (nI L) aff afb anb aru atc atr ald alt := by
  intro n
  induction n with
  | zero => intro step B c ol aru dm t L atc atr ald alt h; omega
  | succ n ih =>
    intro step B c ol aru dm t L atc atr ald alt hn hst hB hri htr hne hcase
    refine pk_le 67108864 step (fun z => absurd z (by omega)) (fun _ => ?_)
    refine qs_prop hP2 hP hD hri.2.1 hri.2.2.2.1 htr hne (fun r dm' t' tc' tr' g1 g2 g3 g4 => ?_) (fun dm' t' tc' tr' g1 g2 g3 g4 => ?_)
    · refine br_f (Int32.not_lt.mpr (qs_nn g3.1)) ?_
      refine qs_rec hP hD hri g1 g2 g3 g4 (fun hno => br_t rfl (h0 _ _ _ _ _ _ _ _ _ _ hri hno)) (fun m t2 rc2 ol2 ru2 e1 e2 e3 e4 e5 e6 => ?_)
      refine br_f (by decide) (nm_r (nI_1 step) ?_)
      have hpot : qs_pot P ald m + (2 ^ (qs_c (ald (m + 1)) - P) - 1) ≤ qs_pot P ald L := by
        have := qs_pot_le (P := P) (ld := ald) (m + 1) (L - (m + 1))
        rw [show m + 1 + (L - (m + 1)) = L from by omega] at this
        exact this
      have hpw : 2 ^ (0 + 1) ≤ 2 ^ (qs_c (ald (m + 1)) - P) := qs_pw (by omega)
      refine ih (step + 1) (2 ^ (qs_c (ald (m + 1)) - P) - 1) rc2 ol2 ru2 (ald (m + 1)) t2 m tc' tr' ald alt (by omega) (by omega) (by omega) e2 e3 e4 (Or.inr ⟨by omega, e5⟩)
    · refine br_t (by decide) ?_
      have hB' : 2 ^ (qs_c dm' - P + 1) ≤ B + 1 := by
        rcases hcase with h | ⟨h, i, hi, hnc⟩
        · exact Nat.le_trans (Nat.pow_le_pow_right (by omega) (by have := qs_c_le g3; omega)) h
        · have hne' : dm' ≠ dm := fun e => hnc (by rw [← e]; exact g4 i hi)
          have hlt : qs_c dm' < qs_c dm := by
            apply Classical.byContradiction
            intro hge
            apply hne'
            apply b_ext
            intro i hi32
            cases e : bt dm i
            · exact qs_tf fun z => by rw [g3 i hi32 z] at e; exact absurd e (by decide)
            · apply Classical.byContradiction
              intro z
              exact hge (qs_c_lt g3 hi32 e (qs_tf z))
          have h2 := qs_c_ge hP g2
          exact Nat.le_trans (qs_pw (by omega)) h
      refine qs_fo hP rfl (fun r hr => ?_)
      rcases hr with ⟨e, hcl⟩ | ⟨p, hp, e, hop, hcl⟩
      · subst e
        refine br_f (by decide) ?_
        have hsub := qs_tr_sub _ _ _ g1
        refine h1 _ _ _ _ _ _ _ _ _ _ hri (qs_final hP g1 g2 hcl (fun i hi hb => (hD i hi (hsub i hi hb)).1) (fun f hf hk hs => ?_)) g2 hcl hsub
        obtain ⟨i, hi, ei⟩ := hri.2.2.2.2 f hf hk
        rw [← ei] at hs
        exact (g4 i (by have := hri.1; omega)).1 hs
      · subst e
        refine br_t (nI_pos' (by omega)) ?_
        refine qs_decide hP2 hP hV hD g1 g2 hp hop hcl (fun dm2 tc2 tr2 ld2 lt2 e1 e2 e3 e4 e5 => ?_)
        refine nm_r (nI_1 step) ?_
        have h2 := qs_c_ge hP e2
        have hpw : 2 ^ (qs_c dm2 - P + 1) ≤ 2 ^ (qs_c dm' - P) := qs_pw (by omega)
        have hpw2 : 2 ^ (qs_c dm' - P + 1) = 2 ^ (qs_c dm' - P) + 2 ^ (qs_c dm' - P) := by rw [Nat.pow_succ]; omega
        have hpot : qs_pot P ld2 (L + 1) = qs_pot P ald L + (2 ^ (qs_c dm' - P) - 1) := by
          show qs_pot P ld2 L + (2 ^ (qs_c (ld2 (L + 1)) - P) - 1) = _
          rw [qs_pot_eq L e4, e3]
        have hpos : 1 ≤ 2 ^ (qs_c dm2 - P) := Nat.one_le_two_pow
        have hpw3 : 2 ^ (qs_c dm2 - P + 1) = 2 ^ (qs_c dm2 - P) + 2 ^ (qs_c dm2 - P) := by rw [Nat.pow_succ]; omega
        exact ih (step + 1) (2 ^ (qs_c dm2 - P + 1) - 1) c ol aru dm2 (t' + 1) (L + 1) tc2 tr2 ld2 lt2 (by omega) (by omega) (by omega) hri e1 e2 (Or.inl (by omega))
/-! loadRules -/
theorem qs_ld16 {post : SX → Prop} (hF : F ≤ 20) (hfb : ∀ f, f < F → bt (afb f) 31 = false)
    (h : ∀ c aru, qs_ri P F k afb c c aru → post (fP, fV, fC, al, nI F, mu, hsu, sP, sL, sH, st, rP, rV, so, bl, de, hlr, lb, nI c, nI c, nI c, k, dm, ts, lv, aff, afb, anb, aru, atc, atr, ald, alt)) :
    ∀ n f c aru, F < n + f → f ≤ F → c ≤ f → (∀ i, i < c → qs_rule P F k afb (aru i)) → (∀ g, g < f → bt k g = true → ∃ i, i < c ∧ aru i = afb g) → wX_loadRules_16 post k fP fV fC al (nI F) mu hsu sP sL sH st rP rV so bl de hlr lb fr ol rf dm ts lv n (nI f) (nI c) aff afb anb aru atc atr ald alt := by
  intro n
  induction n with
  | zero => intro f c aru h1 h2; omega
  | succ n ih =>
    intro f c aru h1 h2 hc hr hb
    refine pk_le F f (fun hle => ?_) (fun hlt => ?_)
    · refine h c aru ⟨Nat.le_refl _, by omega, by omega, hr, fun g hg hk => hb g (by omega) hk⟩
    · have eb := qs_bitI k (j := f) (by omega)
      rw [eb]
      refine br_c (fun hk => ?_) (fun hk => ?_)
      · have hk' := qs_011.mp hk
        refine ⟨pk_in f 20 (by omega), pk_in c 84 (by omega), nm_r (e' := upd aru c (afb f)) (by rw [nI_clamp (by omega), nI_clamp (by omega)]) (nm_r (nI_1 c) (nm_r (nI_1 f) ?_))⟩
        refine ih (f + 1) (c + 1) _ (by omega) (by omega) (by omega) (fun i hi => ?_) (fun g hg hk2 => ?_)
        · by_cases e : i = c
          · rw [e, pk_us]; exact ⟨hfb f hlt, fun a _ ha => ⟨f, hlt, hk', ha⟩⟩
          · rw [pk_un e]; exact hr i (by omega)
        · by_cases e : g = f
          · exact ⟨c, by omega, by rw [e, pk_us]⟩
          · obtain ⟨i, hi, ei⟩ := hb g (by omega) hk2
            exact ⟨i, by omega, by rw [pk_un (by omega)]; exact ei⟩
      · refine nm_r (nI_1 f) ?_
        refine ih (f + 1) c aru (by omega) (by omega) (by omega) hr (fun g hg hk2 => ?_)
        by_cases e : g = f
        · rw [e] at hk2; exact absurd (qs_011.mpr hk2) hk
        · exact hb g (by omega) hk2
/-- the rules that are held, as words -/
def qs_RU (P F : Nat) (k : Int32) (fb : Nat → Int32) (rc fr : Int32) (ru : Nat → Int32) : Prop := ∃ c f : Nat, rc = nI c ∧ fr = nI f ∧ qs_ri P F k fb c f ru
theorem qs_load {post : SX → Prop} (hF : F ≤ 20) (hfb : ∀ f, f < F → bt (afb f) 31 = false) (hR : qs_RU P F rf afb rc fr aru)
    (h : ∀ c f ol aru, qs_ri P F k afb c f aru → post (fP, fV, fC, al, nI F, mu, hsu, sP, sL, sH, st, rP, rV, so, bl, de, hlr, lb, nI c, nI f, ol, k, dm, ts, lv, aff, afb, anb, aru, atc, atr, ald, alt)) : wpX_loadRules post (fP, fV, fC, al, nI F, mu, hsu, sP, sL, sH, st, rP, rV, so, bl, de, hlr, lb, rc, fr, ol, rf, dm, ts, lv, aff, afb, anb, aru, atc, atr, ald, alt) k := by
  refine br_c (fun e => ?_) (fun _ => ?_)
  · subst e
    obtain ⟨c, f, rfl, rfl, hr⟩ := hR
    exact h c f ol aru hr
  · exact ⟨F + 1, qs_ld16 hF hfb (fun c aru hr => h c c _ aru hr) (F + 1) 0 0 aru (by omega) (by omega) (by omega) (fun i hi => by omega) (fun g hg => by omega)⟩
theorem qs_search {post : Int32 → SX → Prop} (hP2 : 2 ≤ P) (hP : P ≤ 6) (hV : V ≤ 4) (hF : F ≤ 20) (hD : qs_reg P V D0) (hne : qs_ne P D0) (hfb : ∀ f, f < F → bt (afb f) 31 = false) (hR : qs_RU P F rf afb rc fr aru)
    (h1 : ∀ rc fr ol aru dm ts lv atc atr ald alt, qs_RU P F k afb rc fr aru → qs_best P F k afb D0 (qs_val dm) → qs_ne P dm → (∀ q, q < P → qs_cl dm q) → qs_sub dm D0 → post 1 (nI P, nI V, fC, al, nI F, mu, hsu, sP, sL, sH, st, rP, rV, so, bl, de, hlr, lb, rc, fr, ol, k, dm, ts, lv, aff, afb, anb, aru, atc, atr, ald, alt))
    (h0 : ∀ rc fr ol aru dm ts lv atc atr ald alt, qs_RU P F k afb rc fr aru → (¬ ∃ a, qs_sol P F k afb D0 a) → post 0 (nI P, nI V, fC, al, nI F, mu, hsu, sP, sL, sH, st, rP, rV, so, bl, de, hlr, lb, rc, fr, ol, k, dm, ts, lv, aff, afb, anb, aru, atc, atr, ald, alt)) :
    wpX_search post (nI P, nI V, fC, al, nI F, mu, hsu, sP, sL, sH, st, rP, rV, so, bl, de, hlr, lb, rc, fr, ol, rf, dm, ts, lv, aff, afb, anb, aru, atc, atr, ald, alt) D0 k := by
  unfold wpX_search
  dsimp only
  refine qs_load hF hfb hR (fun c f ol aru hr => ?_)
  have hc1 := qs_c_up hD
  have hc2 := qs_c_ge hP hne
  have hpw : 2 ^ (qs_c D0 - P + 1) ≤ 2 ^ 25 := Nat.pow_le_pow_right (by omega) (by omega)
  have hpos : 1 ≤ 2 ^ (qs_c D0 - P) := Nat.one_le_two_pow
  have hpw3 : 2 ^ (qs_c D0 - P + 1) = 2 ^ (qs_c D0 - P) + 2 ^ (qs_c D0 - P) := by rw [Nat.pow_succ]; omega
  have h25 : (2 : Nat) ^ 25 = 33554432 := by decide
  refine ⟨2 ^ (qs_c D0 - P + 1), ?_⟩
  refine qs_s22 (by omega) hP hV hD (fun rc ol aru dm ts lv atc atr ald alt g1 g2 g3 g4 g5 => h1 _ _ _ _ _ _ _ _ _ _ _ ⟨_, _, rfl, rfl, g1⟩ g2 g3 g4 g5) (fun rc ol aru dm ts lv atc atr ald alt g1 g2 => h0 _ _ _ _ _ _ _ _ _ _ _ ⟨_, _, rfl, rfl, g1⟩ g2) _ 0 (2 ^ (qs_c D0 - P + 1) - 1) c ol aru D0 0 0 atc atr ald alt ?_ ?_ ?_ hr ⟨rfl, rfl⟩ hne (Or.inl (by omega))
  · show 0 + (2 ^ (qs_c D0 - P + 1) - 1) < 2 ^ (qs_c D0 - P + 1)
    omega
  · show 0 + 0 + (2 ^ (qs_c D0 - P + 1) - 1) ≤ 67108863
    omega
  · omega
end
end
section
/-! ===== the reference: facts, find ===== -/
def qs_ob (kd ol oh v : Nat) : Prop := (kd = 1 → ¬ (ol ≤ v ∧ v ≤ oh)) ∧ (¬ kd = 1 → ol ≤ v ∧ v ≤ oh)
def qs_fct (P : Nat) (b : Int32) (y : Nat → Int32) (f kd s sl sh o ol oh : Nat) : Prop :=
  (y (f * 8 + 0) = nI kd ∧ y (f * 8 + 1) = nI s ∧ y (f * 8 + 2) = nI sl ∧ y (f * 8 + 3) = nI sh ∧ y (f * 8 + 4) = nI o ∧ y (f * 8 + 5) = nI ol ∧ y (f * 8 + 6) = nI oh) ∧
  (kd = 1 ∨ kd = 2) ∧ s < P ∧ o < P ∧ sl < 5 ∧ sh < 5 ∧ ol < 5 ∧ oh < 5 ∧ bt b 31 = false ∧
  ∀ q v, q < P → v < 5 → (bt b (q * 5 + v) = true ↔ (q = s → sl ≤ v ∧ v ≤ sh) ∧ (q = o → qs_ob kd ol oh v))
def qs_fact (P : Nat) (b : Int32) (y : Nat → Int32) (f : Nat) : Prop := ∃ kd s sl sh o ol oh : Nat, qs_fct P b y f kd s sl sh o ol oh
theorem qs_fct_in {P : Nat} {b : Int32} {y : Nat → Int32} {f kd s sl sh o ol oh : Nat} (h : qs_fct P b y f kd s sl sh o ol oh) {a : Nat → Nat} (ha : qs_as P a) : qs_in P a b ↔ (sl ≤ a s ∧ a s ≤ sh) ∧ qs_ob kd ol oh (a o) := by
  obtain ⟨_, _, hs, ho, _, _, _, _, _, hb⟩ := h
  constructor
  · intro h
    exact ⟨((hb s _ hs (ha s hs)).mp (h s hs)).1 rfl, ((hb o _ ho (ha o ho)).mp (h o ho)).2 rfl⟩
  · intro ⟨h1, h2⟩ q hq
    refine (hb q _ hq (ha q hq)).mpr ⟨fun e => ?_, fun e => ?_⟩
    · rw [e]; exact h1
    · rw [e]; exact h2
theorem qs_i8c {f j : Nat} (hf : f < 20) (hj : j < 8) : (nI f * 8 + nI j).toNatClampNeg = f * 8 + j := by rw [qs_8y, nI_clamp (by omega)]
theorem qs_i8 {f j : Nat} (hf : f < 20) (hj : j < 8) : vp_in (nI f * 8 + nI j) 160 := by rw [qs_8y]; exact vp_in_nI (by omega) (by omega)
theorem qs_i5c {p v : Nat} (hp : p < 6) (hv : v < 5) : (nI p * 5 + nI v).toNatClampNeg = p * 5 + v := by rw [qs_5y, nI_clamp (by omega)]
theorem qs_i5 {p v : Nat} (hp : p < 6) (hv : v < 5) : vp_in (nI p * 5 + nI v) 30 := by rw [qs_5y]; exact vp_in_nI (by omega) (by omega)
def qs_sp (P : Nat) (sp : Nat → Int32) (D : Int32) : Prop := ∀ p v, p < P → v < 5 → sp (p * 5 + v) = qs_01 (bt D (p * 5 + v))
section
variable {gP gV gC gF gh gs gp gv gd gl : Int32} {yof yfa ype ybe ybl ypa yls ysp yus yva : Nat → Int32} {P F : Nat} {k D0 : Int32} {fb : Nat → Int32}
theorem qs_v105 {post : Int32 → Prop} {A B : Prop} {x z : Int32} (hx : (x = 1 ∧ A) ∨ (x = 0 ∧ ¬ A)) (hz : (z = 1 ∧ B) ∨ (z = 0 ∧ ¬ B)) (h1 : A ∧ B → post 1) (h0 : ¬ (A ∧ B) → post 0) : wY_violates_105 post x z gP gV gC gF gh gs gp gv gd gl yof yfa ype ybe ybl ypa yls ysp yus yva := by
  rcases hx with ⟨rfl, ha⟩ | ⟨rfl, ha⟩
  · refine br_f (by decide) ?_
    rcases hz with ⟨rfl, hb⟩ | ⟨rfl, hb⟩
    · exact br_f (by decide) (h1 ⟨ha, hb⟩)
    · exact br_t rfl (h0 fun z => hb z.2)
  · exact br_t rfl (h0 fun z => ha z.1)
theorem qs_v73 {post : Int32 → Prop} {A I : Prop} {x z : Int32} {f kd : Nat} (hf : f < 20) (hk : yfa (f * 8 + 0) = nI kd) (hkd : kd = 1 ∨ kd = 2) (hx : (x = 1 ∧ A) ∨ (x = 0 ∧ ¬ A)) (hz : (z = 1 ∧ I) ∨ (z = 0 ∧ ¬ I)) (h1 : A ∧ ((kd = 1 → ¬ I) ∧ (¬ kd = 1 → I)) → post 1) (h0 : ¬ (A ∧ ((kd = 1 → ¬ I) ∧ (¬ kd = 1 → I))) → post 0) : wY_violates_73 post (nI f) x z gP gV gC gF gh gs gp gv gd gl yof yfa ype ybe ybl ypa yls ysp yus yva := by
  refine ⟨qs_i8 (j := 0) hf (by omega), ?_⟩
  have e : (nI f * 8 + 0).toNatClampNeg = f * 8 + 0 := qs_i8c (j := 0) hf (by omega)
  rw [e, hk]
  rcases hkd with rfl | rfl
  · refine br_t rfl ?_
    rcases hz with ⟨rfl, hb⟩ | ⟨rfl, hb⟩
    · exact br_f (by decide) (qs_v105 (A := A) (B := ¬ I) hx (Or.inr ⟨rfl, fun z => z hb⟩) (fun z => absurd hb z.2) (fun _ => h0 fun z => z.2.1 rfl hb))
    · exact br_t rfl (qs_v105 (A := A) (B := ¬ I) hx (Or.inl ⟨rfl, hb⟩) (fun z => h1 ⟨z.1, fun _ => z.2, fun z' => absurd rfl z'⟩) (fun z => h0 fun z' => z ⟨z'.1, hb⟩))
  · refine br_f (by decide) ?_
    exact qs_v105 hx hz (fun z => h1 ⟨z.1, fun z' => absurd z' (by decide), fun _ => z.2⟩) (fun z => h0 fun z' => z ⟨z'.1, z'.2.2 (by decide)⟩)
theorem qs_v35 {post : Int32 → Prop} {A : Prop} {x : Int32} {b f kd s sl sh o ol oh : Nat} {B : Int32} (hf : f < 20) (h : qs_fct P B yfa f kd s sl sh o ol oh) (hb : b < 5) (hx : (x = 1 ∧ A) ∨ (x = 0 ∧ ¬ A)) (h1 : A ∧ qs_ob kd ol oh b → post 1) (h0 : ¬ (A ∧ qs_ob kd ol oh b) → post 0) : wY_violates_35 post (nI f) (nI b) x gP gV gC gF gh gs gp gv gd gl yof yfa ype ybe ybl ypa yls ysp yus yva := by
  obtain ⟨⟨e0, _, _, _, _, e5, e6⟩, hkd, _, _, _, _, hol, hoh, _, _⟩ := h
  refine ⟨qs_i8 (j := 5) hf (by omega), ?_⟩
  have c5 : (nI f * 8 + 5).toNatClampNeg = f * 8 + 5 := qs_i8c (j := 5) hf (by omega)
  have c6 : (nI f * 8 + 6).toNatClampNeg = f * 8 + 6 := qs_i8c (j := 6) hf (by omega)
  rw [c5, e5]
  refine pk_lt b ol (fun hl => ?_) (fun hl => ?_)
  · exact qs_v73 (A := A) (I := ol ≤ b ∧ b ≤ oh) hf e0 hkd hx (Or.inr ⟨rfl, by omega⟩) h1 h0
  · refine ⟨qs_i8 (j := 6) hf (by omega), ?_⟩
    rw [c6, e6]
    refine pk_lt oh b (fun hl2 => ?_) (fun hl2 => ?_)
    · exact qs_v73 (A := A) (I := ol ≤ b ∧ b ≤ oh) hf e0 hkd hx (Or.inr ⟨rfl, by omega⟩) h1 h0
    · exact qs_v73 (A := A) (I := ol ≤ b ∧ b ≤ oh) hf e0 hkd hx (Or.inl ⟨rfl, by omega⟩) h1 h0
theorem qs_viol {post : Int32 → Prop} {a b f kd s sl sh o ol oh : Nat} {B : Int32} (hf : f < 20) (h : qs_fct P B yfa f kd s sl sh o ol oh) (ha : a < 5) (hb : b < 5) (h1 : (sl ≤ a ∧ a ≤ sh) ∧ qs_ob kd ol oh b → post 1) (h0 : ¬ ((sl ≤ a ∧ a ≤ sh) ∧ qs_ob kd ol oh b) → post 0) : wpY_violates post (gP, gV, gC, gF, gh, gs, gp, gv, gd, gl, yof, yfa, ype, ybe, ybl, ypa, yls, ysp, yus, yva) (nI f) (nI a) (nI b) := by
  have c2 : (nI f * 8 + 2).toNatClampNeg = f * 8 + 2 := qs_i8c (j := 2) hf (by omega)
  have c3 : (nI f * 8 + 3).toNatClampNeg = f * 8 + 3 := qs_i8c (j := 3) hf (by omega)
  have h' := h
  obtain ⟨⟨_, _, e2, e3, _, _, _⟩, _, _, _, hsl, hsh, _, _, _, _⟩ := h'
  refine ⟨qs_i8 (j := 2) hf (by omega), ?_⟩
  rw [c2, e2]
  refine pk_lt a sl (fun hl => ?_) (fun hl => ?_)
  · exact qs_v35 (A := sl ≤ a ∧ a ≤ sh) hf h hb (Or.inr ⟨rfl, by omega⟩) h1 h0
  · refine ⟨qs_i8 (j := 3) hf (by omega), ?_⟩
    rw [c3, e3]
    refine pk_lt sh a (fun hl2 => ?_) (fun hl2 => ?_)
    · exact qs_v35 (A := sl ≤ a ∧ a ≤ sh) hf h hb (Or.inr ⟨rfl, by omega⟩) h1 h0
    · exact qs_v35 (A := sl ≤ a ∧ a ≤ sh) hf h hb (Or.inl ⟨rfl, by omega⟩) h1 h0
theorem qs_f197z {post : Int32 → SY → Prop} {J : Int32 → (Nat → Int32) → (Nat → Int32) → (Nat → Int32) → (Nat → Int32) → (Nat → Int32) → (Nat → Int32) → (Nat → Int32) → (Nat → Int32) → (Nat → Int32) → (Nat → Int32) → Prop} {x1 x2 : Int32} (h : J (x2 + 1) yof yfa ype ybe ybl ypa yls ysp yus yva) : wY_find_197 post J x1 x2 0 gP gV gC gF gh gs gp gv gd gl yof yfa ype ybe ybl ypa yls ysp yus yva := br_t rfl (nm_e h)
theorem qs_f109z {post : Int32 → SY → Prop} {J : Int32 → (Nat → Int32) → (Nat → Int32) → (Nat → Int32) → (Nat → Int32) → (Nat → Int32) → (Nat → Int32) → (Nat → Int32) → (Nat → Int32) → (Nat → Int32) → (Nat → Int32) → Prop} {x1 x2 x5 : Int32} {n : Nat} (h : J (x2 + 1) yof yfa ype ybe ybl ypa yls ysp yus yva) : wY_find_109 post J x1 x2 gP gV gC gF gh gs gp gv gd gl yof yfa ype ybe ybl ypa yls ysp yus yva (n + 1) 0 x5 :=
  br_c (fun _ => qs_f197z h) (fun _ => br_t rfl (qs_f197z h))
theorem qs_f109 {post : Int32 → SY → Prop} {J : Int32 → (Nat → Int32) → (Nat → Int32) → (Nat → Int32) → (Nat → Int32) → (Nat → Int32) → (Nat → Int32) → (Nat → Int32) → (Nat → Int32) → (Nat → Int32) → (Nat → Int32) → Prop} {x1 x2 : Int32} {a : Nat → Nat} (hP : P ≤ 6) (hF : F ≤ 20) (hus : ∀ f, f < F → yus f = qs_01 (bt k f)) (hfa : ∀ f, f < F → qs_fact P (fb f) yfa f) (ha : qs_as P a) (hv : ∀ p, p < P → yva p = nI (a p))
    (hg : (∀ f, f < F → bt k f = true → ¬ qs_in P a (fb f)) → post 1 (gP, gV, gC, nI F, gh, gs, gp, gv, gd, gl, yof, yfa, ype, ybe, ybl, ypa, yls, ysp, yus, yva)) (hb : (∃ f, f < F ∧ bt k f = true ∧ qs_in P a (fb f)) → J (x2 + 1) yof yfa ype ybe ybl ypa yls ysp yus yva) :
    ∀ n f, F < n + f → f ≤ F → (∀ g, g < f → bt k g = true → ¬ qs_in P a (fb g)) → wY_find_109 post J x1 x2 gP gV gC (nI F) gh gs gp gv gd gl yof yfa ype ybe ybl ypa yls ysp yus yva n 1 (nI f) := by
  intro n
  induction n with
  | zero => intro f h1 h2; omega
  | succ n ih =>
    intro f h1 h2 hno
    refine pk_le F f (fun hle => ?_) (fun hlt => ?_)
    · exact br_f (by decide) (hg fun g hg hk => hno g (by omega) hk)
    · refine br_f (by decide) ⟨pk_in f 20 (by omega), ?_⟩
      have ef : (nI f).toNatClampNeg = f := nI_clamp (by omega)
      rw [ef, hus f hlt]
      refine br_c (fun hz => ?_) (fun hz => ?_)
      · refine nm_r (nI_1 f) (ih (f + 1) (by omega) (by omega) (lt_s hno fun hk => ?_))
        rw [qs_010.mp hz] at hk
        exact absurd hk (by decide)
      · obtain ⟨kd, s, sl, sh, o, ol, oh, h⟩ := hfa f hlt
        have h' := h
        obtain ⟨⟨_, es, _, _, eo, _, _⟩, _, hs, ho, _, _, _, _, _, _⟩ := h'
        have hkf : bt k f = true := by
          cases e : bt k f
          · exact absurd (qs_010.mpr e) hz
          · rfl
        have c1 : (nI f * 8 + 1).toNatClampNeg = f * 8 + 1 := qs_i8c (j := 1) (by omega) (by omega)
        have c4 : (nI f * 8 + 4).toNatClampNeg = f * 8 + 4 := qs_i8c (j := 4) (by omega) (by omega)
        refine ⟨qs_i8 (j := 1) (by omega) (by omega), ?_⟩
        rw [c1, es]
        refine ⟨pk_in s 6 (by omega), nm_r (e' := nI (a s)) (by rw [nI_clamp (by omega)]; exact hv s hs) ?_⟩
        refine ⟨qs_i8 (j := 4) (by omega) (by omega), ?_⟩
        rw [c4, eo]
        refine ⟨pk_in o 6 (by omega), nm_r (e' := nI (a o)) (by rw [nI_clamp (by omega)]; exact hv o ho) ?_⟩
        refine qs_viol (by omega) h (ha s hs) (ha o ho) (fun hv1 => ?_) (fun hv0 => ?_)
        · refine br_f (by decide) (nm_e ?_)
          obtain ⟨n', rfl⟩ : ∃ n', n = n' + 1 := ⟨n - 1, by omega⟩
          exact qs_f109z (hb ⟨f, hlt, hkf, (qs_fct_in h ha).mpr hv1⟩)
        · refine br_t rfl (nm_r (nI_1 f) (ih (f + 1) (by omega) (by omega) (lt_s hno fun _ hi => hv0 ((qs_fct_in h ha).mp hi))))
end
/-! the number of an assignment, and back -/
def qs_vd (d : Nat) : Nat := if d = 0 then 0 else 5 - d
theorem qs_vd5 {d : Nat} : qs_vd d < 5 := by unfold qs_vd; split <;> omega
theorem qs_dgvd : ∀ d, d < 5 → qs_dg (qs_vd d) = d := by decide
theorem qs_vddg : ∀ v, v < 5 → qs_vd (qs_dg v) = v := by decide
def qs_asg (P n p : Nat) : Nat := qs_vd (n / 5 ^ (P - 1 - p) % 5)
theorem qs_num_asg (P n : Nat) (hn : n < 5 ^ P) : ∀ p, p ≤ P → qs_num (qs_asg P n) p = n / 5 ^ (P - p)
  | 0, _ => (Nat.div_eq_of_lt hn).symm
  | p + 1, hp => by
    show qs_num (qs_asg P n) p * 5 + qs_dg (qs_vd (n / 5 ^ (P - 1 - p) % 5)) = n / 5 ^ (P - (p + 1))
    rw [qs_num_asg P n hn p (by omega), qs_dgvd _ (Nat.mod_lt _ (by omega)), show P - 1 - p = P - (p + 1) from by omega, show P - p = (P - (p + 1)) + 1 from by omega, Nat.pow_succ, ← Nat.div_div_eq_div_mul]
    omega
theorem qs_num_div (a : Nat → Nat) (p : Nat) : ∀ j, qs_num a (p + j) / 5 ^ j = qs_num a p
  | 0 => Nat.div_one _
  | j + 1 => by
    rw [Nat.pow_succ, Nat.mul_comm, ← Nat.div_div_eq_div_mul]
    have e : qs_num a (p + (j + 1)) / 5 = qs_num a (p + j) := by
      show (qs_num a (p + j) * 5 + qs_dg (a (p + j))) / 5 = qs_num a (p + j)
      have := @qs_dg5 (a (p + j))
      omega
    rw [e]
    exact qs_num_div a p j
theorem qs_num_5 (a : Nat → Nat) : ∀ p, qs_num a p < 5 ^ p
  | 0 => Nat.one_pos
  | p + 1 => by
    show qs_num a p * 5 + qs_dg (a p) < 5 ^ (p + 1)
    have h1 := qs_num_5 a p
    have h2 := @qs_dg5 (a p)
    rw [Nat.pow_succ]
    omega
theorem qs_asg_num {P : Nat} {a : Nat → Nat} {p : Nat} (hp : p < P) (ha : a p < 5) : qs_asg P (qs_num a P) p = a p := by
  have h := qs_num_div a (p + 1) (P - (p + 1))
  rw [show p + 1 + (P - (p + 1)) = P from by omega] at h
  show qs_vd (qs_num a P / 5 ^ (P - 1 - p) % 5) = a p
  rw [show P - 1 - p = P - (p + 1) from by omega, h]
  have e : qs_num a (p + 1) % 5 = qs_dg (a p) := by
    show (qs_num a p * 5 + qs_dg (a p)) % 5 = qs_dg (a p)
    have := @qs_dg5 (a p)
    omega
  rw [e, qs_vddg _ ha]
theorem qs_in_c {P : Nat} {a b : Nat → Nat} {x : Int32} (h : ∀ p, p < P → a p = b p) (hi : qs_in P a x) : qs_in P b x := fun p hp => by rw [← h p hp]; exact hi p hp
theorem qs_sol_c {P F : Nat} {k : Int32} {fb : Nat → Int32} {D : Int32} {a b : Nat → Nat} (h : ∀ p, p < P → a p = b p) (hs : qs_sol P F k fb D a) : qs_sol P F k fb D b :=
  ⟨fun p hp => by rw [← h p hp]; exact hs.1 p hp, qs_in_c h hs.2.1, fun f hf hk hi => hs.2.2 f hf hk (qs_in_c (fun p hp => (h p hp).symm) hi)⟩
theorem qs_best_n {P F : Nat} {k : Int32} {fb : Nat → Int32} {D : Int32} {N : Nat} (hN : N < 5 ^ P) (hs : qs_sol P F k fb D (qs_asg P N)) (hm : ∀ m, m < N → ¬ qs_sol P F k fb D (qs_asg P m)) : qs_best P F k fb D (qs_asg P N) := by
  refine ⟨hs, fun a ha => ?_⟩
  have e := qs_num_asg P N hN P (Nat.le_refl _)
  rw [Nat.sub_self, Nat.pow_zero, Nat.div_one] at e
  rw [e]
  apply Classical.byContradiction
  intro hlt
  exact hm _ (by omega) (qs_sol_c (fun p hp => (qs_asg_num hp (ha.1 p hp)).symm) ha)
theorem qs_none_n {P F : Nat} {k : Int32} {fb : Nat → Int32} {D : Int32} (hm : ∀ m, m < 5 ^ P → ¬ qs_sol P F k fb D (qs_asg P m)) : ¬ ∃ a, qs_sol P F k fb D a := fun ⟨a, ha⟩ =>
  hm _ (qs_num_5 a P) (qs_sol_c (fun p hp => (qs_asg_num hp (ha.1 p hp)).symm) ha)
theorem qs_num_inj {a b : Nat → Nat} : ∀ P, qs_as P a → qs_as P b → qs_num a P = qs_num b P → ∀ p, p < P → a p = b p
  | 0, _, _, _ => fun p hp => absurd hp (by omega)
  | P + 1, ha, hb, h => fun p hp => by
    have h' : qs_num a P * 5 + qs_dg (a P) = qs_num b P * 5 + qs_dg (b P) := h
    have h1 := @qs_dg5 (a P)
    have h2 := @qs_dg5 (b P)
    by_cases e : p = P
    · rw [e, ← qs_vddg (a P) (ha P (by omega)), ← qs_vddg (b P) (hb P (by omega)), show qs_dg (a P) = qs_dg (b P) from by omega]
    · exact qs_num_inj P (fun q hq => ha q (by omega)) (fun q hq => hb q (by omega)) (by omega) p (by omega)
theorem qs_best_u {P F : Nat} {k : Int32} {fb : Nat → Int32} {D : Int32} {a b : Nat → Nat} (ha : qs_best P F k fb D a) (hb : qs_best P F k fb D b) : ∀ p, p < P → a p = b p :=
  qs_num_inj P ha.1.1 hb.1.1 (Nat.le_antisymm (ha.2 b hb.1) (hb.2 a ha.1))
end
section
section
variable {gP gV gC gF gh gs gp gv gd gl : Int32} {yof yfa ype ybe ybl ypa yls ysp yus yva : Nat → Int32} {P F : Nat} {k D0 : Int32} {fb : Nat → Int32}
theorem qs_f42z {post : Int32 → SY → Prop} {J : Int32 → (Nat → Int32) → (Nat → Int32) → (Nat → Int32) → (Nat → Int32) → (Nat → Int32) → (Nat → Int32) → (Nat → Int32) → (Nat → Int32) → (Nat → Int32) → (Nat → Int32) → Prop} {x1 x2 x3 x5 : Int32} {n : Nat} (h : J (x2 + 1) yof yfa ype ybe ybl ypa yls ysp yus yva) : wY_find_42 post J x1 x2 gP gV gC gF gh gs gp gv gd gl (n + 1) x3 0 x5 yof yfa ype ybe ybl ypa yls ysp yus yva :=
  br_c (fun _ => ⟨1, qs_f109z h⟩) (fun _ => br_t rfl ⟨1, qs_f109z h⟩)
theorem qs_f80 {post : Int32 → SY → Prop} {J : Int32 → (Nat → Int32) → (Nat → Int32) → (Nat → Int32) → (Nat → Int32) → (Nat → Int32) → (Nat → Int32) → (Nat → Int32) → (Nat → Int32) → (Nat → Int32) → (Nat → Int32) → Prop} {J42 : Int32 → Int32 → Int32 → (Nat → Int32) → (Nat → Int32) → (Nat → Int32) → (Nat → Int32) → (Nat → Int32) → (Nat → Int32) → (Nat → Int32) → (Nat → Int32) → (Nat → Int32) → (Nat → Int32) → Prop} {x1 x2 x3 : Int32} {j v : Nat} (hP : P ≤ 6) (hj : j < P) (hv : v < 5) (hsp : qs_sp P ysp D0)
    (h : J42 x3 (qs_01 (bt D0 (j * 5 + v))) (nI j - 1) yof yfa ype ybe ybl ypa yls ysp yus (upd yva j (nI v))) : wY_find_80 post J J42 x1 x2 x3 (nI j) (nI v) (nI j) gP gV gC gF gh gs gp gv gd gl yof yfa ype ybe ybl ypa yls ysp yus yva := by
  have ej : (nI j).toNatClampNeg = j := nI_clamp (by omega)
  refine ⟨pk_in j 6 (by omega), nm_r (e' := upd yva j (nI v)) (by rw [ej]) ?_⟩
  rw [ej, pk_us]
  refine ⟨pk_in j 6 (by omega), qs_i5 (by omega) hv, nm_r (e' := qs_01 (bt D0 (j * 5 + v))) (by rw [qs_i5c (by omega) hv]; exact hsp j v hj hv) (nm_r (qs_pm _) h)⟩
theorem qs_f42 {post : Int32 → SY → Prop} {J : Int32 → (Nat → Int32) → (Nat → Int32) → (Nat → Int32) → (Nat → Int32) → (Nat → Int32) → (Nat → Int32) → (Nat → Int32) → (Nat → Int32) → (Nat → Int32) → (Nat → Int32) → Prop} {x1 x2 : Int32} {N : Nat} (hP : P ≤ 6) (hF : F ≤ 20) (hN : N < 5 ^ P) (hsp : qs_sp P ysp D0) (hus : ∀ f, f < F → yus f = qs_01 (bt k f)) (hfa : ∀ f, f < F → qs_fact P (fb f) yfa f)
    (hg : ∀ yva, qs_sol P F k fb D0 (qs_asg P N) → (∀ p, p < P → yva p = nI (qs_asg P N p)) → post 1 (nI P, gV, gC, nI F, gh, gs, gp, gv, gd, gl, yof, yfa, ype, ybe, ybl, ypa, yls, ysp, yus, yva)) (hb : ∀ yva, ¬ qs_sol P F k fb D0 (qs_asg P N) → J (x2 + 1) yof yfa ype ybe ybl ypa yls ysp yus yva) :
    ∀ j n yva, j ≤ P → j + 1 < n → (∀ q, j ≤ q → q < P → yva q = nI (qs_asg P N q) ∧ bt D0 (q * 5 + qs_asg P N q) = true) → wY_find_42 post J x1 x2 (nI P) gV gC (nI F) gh gs gp gv gd gl n (nI (N / 5 ^ (P - j))) 1 (nI j - 1) yof yfa ype ybe ybl ypa yls ysp yus yva := by
  intro j
  induction j with
  | zero =>
    intro n yva h1 h2 hq
    obtain ⟨m, rfl⟩ : ∃ m, n = m + 1 := ⟨n - 1, by omega⟩
    refine br_t (by decide) ⟨F + 1, ?_⟩
    have ha : qs_as P (qs_asg P N) := fun p _ => qs_vd5
    refine qs_f109 hP hF hus hfa ha (fun p hp => (hq p (by omega) hp).1) (fun hno => ?_) (fun ⟨f, hf, hk, hi⟩ => ?_) (F + 1) 0 (by omega) (by omega) (fun g hg => by omega)
    · exact hg yva ⟨ha, fun p hp => (hq p (by omega) hp).2, hno⟩ (fun p hp => (hq p (by omega) hp).1)
    · exact hb yva fun hs => hs.2.2 f hf hk hi
  | succ j ih =>
    intro n yva h1 h2 hq
    obtain ⟨m, rfl⟩ : ∃ m, n = m + 1 := ⟨n - 1, by omega⟩
    have h15 : 5 ^ P ≤ 5 ^ 6 := Nat.pow_le_pow_right (by omega) hP
    have h56 : (5 : Nat) ^ 6 = 15625 := by decide
    have hR : N / 5 ^ (P - (j + 1)) < 2 ^ 31 := Nat.lt_of_le_of_lt (Nat.div_le_self _ _) (by omega)
    rw [nI_pred]
    refine br_f (nI_pos (by omega)) (br_f (by decide) ⟨by decide, ?_⟩)
    refine nm_r (e' := nI (N / 5 ^ (P - (j + 1)) % 5)) (pk_rem (d := 5) hR (by omega) (by omega)) ⟨by decide, ?_⟩
    refine nm_r (e' := nI (N / 5 ^ (P - j))) ?_ ?_
    · have e := pk_div (a := N / 5 ^ (P - (j + 1))) (d := 5) hR (by omega) (by omega)
      refine e.trans (congrArg nI ?_)
      rw [Nat.div_div_eq_div_mul, ← Nat.pow_succ, show (P - (j + 1)).succ = P - j from by omega]
    have hd5 : N / 5 ^ (P - (j + 1)) % 5 < 5 := Nat.mod_lt _ (by omega)
    have ea : qs_asg P N j = qs_vd (N / 5 ^ (P - (j + 1)) % 5) := by
      unfold qs_asg
      rw [show P - 1 - j = P - (j + 1) from by omega]
    have hgo : ∀ n', m = n' → wY_find_42 post J x1 x2 (nI P) gV gC (nI F) gh gs gp gv gd gl m (nI (N / 5 ^ (P - j))) (qs_01 (bt D0 (j * 5 + qs_asg P N j))) (nI j - 1) yof yfa ype ybe ybl ypa yls ysp yus (upd yva j (nI (qs_asg P N j))) := by
      intro _ _
      cases e : bt D0 (j * 5 + qs_asg P N j)
      · obtain ⟨m', rfl⟩ : ∃ m', m = m' + 1 := ⟨m - 1, by omega⟩
        refine qs_f42z (hb _ fun hs => ?_)
        have := hs.2.1 j (by omega)
        rw [e] at this
        exact absurd this (by decide)
      · refine ih m _ (by omega) (by omega) (fun q h3 h4 => ?_)
        by_cases eq : q = j
        · rw [eq, pk_us]; exact ⟨rfl, e⟩
        · rw [pk_un eq]; exact hq q (by omega) h4
    have hgo := hgo m rfl
    rw [ea] at hgo
    refine br_c (fun hz => ?_) (fun hz => ?_)
    · have hz' : N / 5 ^ (P - (j + 1)) % 5 = 0 := (nI_eq (by omega) (by omega)).mp hz
      rw [hz'] at hgo
      exact qs_f80 (v := 0) hP (by omega) (by omega) hsp hgo
    · have hz' : ¬ N / 5 ^ (P - (j + 1)) % 5 = 0 := fun z => hz (by rw [z]; rfl)
      have e5 : (5 : Int32) - nI (N / 5 ^ (P - (j + 1)) % 5) = nI (qs_vd (N / 5 ^ (P - (j + 1)) % 5)) := by
        unfold qs_vd
        rw [if_neg hz']
        exact pk_sub (a := 5) (by omega)
      rw [e5]
      exact qs_f80 hP (by omega) qs_vd5 hsp hgo
theorem qs_f24 {post : Int32 → SY → Prop} (hP : P ≤ 6) (hF : F ≤ 20) (hsp : qs_sp P ysp D0) (hus : ∀ f, f < F → yus f = qs_01 (bt k f)) (hfa : ∀ f, f < F → qs_fact P (fb f) yfa f)
    (h1 : ∀ yva b, qs_best P F k fb D0 b → (∀ p, p < P → yva p = nI (b p)) → post 1 (nI P, gV, gC, nI F, gh, gs, gp, gv, gd, gl, yof, yfa, ype, ybe, ybl, ypa, yls, ysp, yus, yva))
    (h0 : ∀ yva, (¬ ∃ a, qs_sol P F k fb D0 a) → post 0 (nI P, gV, gC, nI F, gh, gs, gp, gv, gd, gl, yof, yfa, ype, ybe, ybl, ypa, yls, ysp, yus, yva)) :
    ∀ n N yva, 5 ^ P < n + N → N ≤ 5 ^ P → (∀ m, m < N → ¬ qs_sol P F k fb D0 (qs_asg P m)) → wY_find_24 post (nI (5 ^ P)) (nI P) gV gC (nI F) gh gs gp gv gd gl n (nI N) yof yfa ype ybe ybl ypa yls ysp yus yva := by
  have h15 : 5 ^ P ≤ 5 ^ 6 := Nat.pow_le_pow_right (by omega) hP
  have h56 : (5 : Nat) ^ 6 = 15625 := by decide
  intro n
  induction n with
  | zero => intro N yva g1 g2; omega
  | succ n ih =>
    intro N yva g1 g2 hno
    refine pk_le (5 ^ P) N (fun hle => ?_) (fun hlt => ?_)
    · exact h0 yva (qs_none_n fun m hm => hno m (by omega))
    · refine nm_e ⟨P + 2, ?_⟩
      have h := qs_f42 (x1 := nI (5 ^ P)) (x2 := nI N) (J := wY_find_24 post (nI (5 ^ P)) (nI P) gV gC (nI F) gh gs gp gv gd gl n) hP hF hlt hsp hus hfa (fun yva hs hv => h1 yva _ (qs_best_n hlt hs hno) hv) (fun yva hs => by rw [nI_1]; exact ih (N + 1) yva (by omega) (by omega) (lt_s hno hs)) P (P + 2) yva (Nat.le_refl _) (by omega) (fun q h3 h4 => by omega)
      rw [Nat.sub_self, Nat.pow_zero, Nat.div_one] at h
      exact h
theorem qs_f4 {post : Int32 → SY → Prop} (hP : P ≤ 6) (h : ∃ n, wY_find_24 post (nI (5 ^ P)) (nI P) gV gC gF gh gs gp gv gd gl n 0 yof yfa ype ybe ybl ypa yls ysp yus yva) : ∀ n j, P < n + j → j ≤ P → wY_find_4 post (nI P) gV gC gF gh gs gp gv gd gl yof yfa ype ybe ybl ypa yls ysp yus yva n (nI (5 ^ j)) (nI j) := by
  intro n
  induction n with
  | zero => intro j h1 h2; omega
  | succ n ih =>
    intro j h1 h2
    refine pk_le P j (fun hle => ?_) (fun hlt => ?_)
    · have e : j = P := by omega
      rw [e]
      exact h
    · refine nm_r (e' := nI (5 ^ (j + 1))) (by rw [Nat.pow_succ]; exact pk_mul _ 5) (nm_r (nI_1 j) ?_)
      exact ih (j + 1) (by omega) (by omega)
theorem qs_find {post : Int32 → SY → Prop} (hP : P ≤ 6) (hF : F ≤ 20) (hsp : qs_sp P ysp D0) (hus : ∀ f, f < F → yus f = qs_01 (bt k f)) (hfa : ∀ f, f < F → qs_fact P (fb f) yfa f)
    (h1 : ∀ yva b, qs_best P F k fb D0 b → (∀ p, p < P → yva p = nI (b p)) → post 1 (nI P, gV, gC, nI F, gh, gs, gp, gv, gd, gl, yof, yfa, ype, ybe, ybl, ypa, yls, ysp, yus, yva))
    (h0 : ∀ yva, (¬ ∃ a, qs_sol P F k fb D0 a) → post 0 (nI P, gV, gC, nI F, gh, gs, gp, gv, gd, gl, yof, yfa, ype, ybe, ybl, ypa, yls, ysp, yus, yva)) : wpY_find post (nI P, gV, gC, nI F, gh, gs, gp, gv, gd, gl, yof, yfa, ype, ybe, ybl, ypa, yls, ysp, yus, yva) :=
  ⟨P + 1, qs_f4 hP ⟨5 ^ P + 1, qs_f24 hP hF hsp hus hfa h1 h0 (5 ^ P + 1) 0 yva (Nat.lt_succ_self _) (Nat.zero_le _) (fun m hm => absurd hm (Nat.not_lt_zero m))⟩ (P + 1) 0 (by omega) (by omega)⟩
end
end
section
/-! ===== the relation ===== -/
def qs_B (P V C F : Nat) : Prop := 2 ≤ P ∧ P ≤ 6 ∧ 1 ≤ V ∧ V ≤ 4 ∧ C ≤ 20 ∧ F ≤ C
def qs_A (P V : Nat) (al : Int32) (yof : Nat → Int32) : Prop := qs_reg P V al ∧ (∀ p, p < P → bt al (p * 5) = true) ∧ ∀ p v, p < P → 1 ≤ v → v < 5 → yof (p * 5 + v) = qs_01 (bt al (p * 5 + v))
def qs_kb (F : Nat) (k : Int32) : Prop := ∀ f, F ≤ f → bt k f = false
def qs_Fc (P F : Nat) (mu : Int32) (aff afb yfa : Nat → Int32) : Prop := qs_kb F mu ∧ ∀ f, f < F → qs_fact P (afb f) yfa f ∧ (∀ j, j < 7 → aff (f * 7 + j) = yfa (f * 8 + j)) ∧ yfa (f * 8 + 7) = qs_01 (bt mu f)
def qs_Pe (P V : Nat) (hsu sP sL sH gh : Int32) (ype : Nat → Int32) : Prop := (hsu = 0 ∧ gh = 0) ∨ (hsu = 1 ∧ gh = 1 ∧ ∃ p l h : Nat, p < P ∧ 1 ≤ l ∧ l ≤ h ∧ h ≤ V ∧ sP = nI p ∧ sL = nI l ∧ sH = nI h ∧ ype 1 = nI p ∧ ype 2 = nI l ∧ ype 3 = nI h)
def qs_Rl (P F : Nat) (rf : Int32) (afb : Nat → Int32) (rc fr : Int32) (aru : Nat → Int32) : Prop := qs_RU P F rf afb rc fr aru ∧ qs_kb F rf
def qs_wo (x : Int32) (p v : Nat) : Int32 := (x &&& (qs_g p ^^^ (-1))) ||| qs_b p v
def qs_act (F : Nat) (mu : Int32) : Int32 := (((1 : Int32) <<< (nI F &&& 31)) - 1) &&& (mu ^^^ (-1))
def qs_no (P F : Nat) (k : Int32) (fb : Nat → Int32) (D : Int32) : Prop := ¬ ∃ a, qs_sol P F k fb D a
/-- one step of learn: the value is added if it is allowed, is not there, and gives no solution -/
def qs_wc (P F : Nat) (bl : Int32) (fb : Nat → Int32) (al x : Int32) (p v : Nat) : Prop := bt al (p * 5 + v) = true ∧ bt x (p * 5 + v) = false ∧ qs_no P F bl fb (qs_wo x p v)
noncomputable def qs_wd (P F : Nat) (bl : Int32) (fb : Nat → Int32) (al x : Int32) (p v : Nat) : Int32 := @ite _ (qs_wc P F bl fb al x p v) (Classical.propDecidable _) (x ||| qs_b p v) x
/-- the values below v of package p, then the packages below p -/
noncomputable def qs_lv (P F : Nat) (bl : Int32) (fb : Nat → Int32) (al : Int32) (p : Nat) (x : Int32) : Nat → Int32
  | 0 => x
  | v + 1 => qs_wd P F bl fb al (qs_lv P F bl fb al p x v) p v
noncomputable def qs_lp (P V F : Nat) (bl : Int32) (fb : Nat → Int32) (al x : Int32) : Nat → Int32
  | 0 => x
  | p + 1 => qs_lv P F bl fb al p (qs_lp P V F bl fb al x p) (V + 1)
def qs_nd (P : Nat) (top : Int32) (anb ypa : Nat → Int32) (dd : Nat) : Prop := anb 0 = top ∧ ∀ d, d < dd → ∃ p v : Nat, p < P ∧ v < 5 ∧ ¬ qs_cl (anb d) p ∧ (∀ q, q < p → qs_cl (anb d) q) ∧ bt (anb d) (p * 5 + v) = true ∧ ypa d = nI v ∧ anb (d + 1) = qs_wo (anb d) p v
def qs_Ex (P V F : Nat) (al : Int32) (afb : Nat → Int32) (top bl de hlr lb : Int32) (anb : Nat → Int32) (gd gl : Int32) (ybl ypa yls : Nat → Int32) : Prop :=
  qs_kb F bl ∧ qs_no P F bl afb top ∧ (∀ f, f < F → ybl f = qs_01 (bt bl f)) ∧ ∃ dd : Nat, de = nI dd ∧ gd = nI dd ∧ qs_nd P top anb ypa dd ∧
  ((hlr = 0 ∧ gl = 0) ∨ (hlr = 1 ∧ gl = 1 ∧ lb = qs_lp P V F bl afb al (anb dd) P ∧ qs_sp P yls lb))
def qs_Rs (P V F : Nat) (al mu : Int32) (afb : Nat → Int32) (st rP rV so bl de hlr lb : Int32) (anb : Nat → Int32) (gs gp gv gd gl : Int32) (ybe ybl ypa yls : Nat → Int32) : Prop :=
  gs = st ∧ (st = 0 ∨ ∃ rp rv : Nat, rp < P ∧ 1 ≤ rv ∧ rv ≤ V ∧ rP = nI rp ∧ rV = nI rv ∧ gp = nI rp ∧ gv = nI rv ∧ bt al (rp * 5 + rv) = true ∧
    ((st = 1 ∧ ∃ b, qs_best P F (qs_act F mu) afb (qs_wo al rp rv) b ∧ qs_in P b so ∧ (∀ q, q < P → qs_cl so q) ∧ qs_reg P V so ∧ ∀ p, p < P → ybe p = nI (b p)) ∨
     (st = 2 ∧ qs_no P F (qs_act F mu) afb (qs_wo al rp rv)) ∨
     (st = 3 ∧ qs_no P F (qs_act F mu) afb (qs_wo al rp rv) ∧ qs_Ex P V F al afb (qs_wo al rp rv) bl de hlr lb anb gd gl ybl ypa yls)))
def i_Rel (_ : Nat) (u : SX) (v : SY) : Prop := match u, v with
  | (fP, fV, fC, al, fF, mu, hsu, sP, sL, sH, st, rP, rV, so, bl, de, hlr, lb, rc, fr, ol, rf, dm, ts, lv, aff, afb, anb, aru, atc, atr, ald, alt), (gP, gV, gC, gF, gh, gs, gp, gv, gd, gl, yof, yfa, ype, ybe, ybl, ypa, yls, ysp, yus, yva) => ∃ P V C F : Nat, qs_B P V C F ∧ (fP = nI P ∧ fV = nI V ∧ fC = nI C ∧ fF = nI F ∧ gP = nI P ∧ gV = nI V ∧ gC = nI C ∧ gF = nI F) ∧ qs_A P V al yof ∧ qs_Fc P F mu aff afb yfa ∧ qs_Pe P V hsu sP sL sH gh ype ∧ qs_Rl P F rf afb rc fr aru ∧ qs_Rs P V F al mu afb st rP rV so bl de hlr lb anb gs gp gv gd gl ybe ybl ypa yls
section
variable {fP fV fC al fF mu hsu sP sL sH st rP rV so bl de hlr lb rc fr ol rf dm ts lv : Int32} {aff afb anb aru atc atr ald alt : Nat → Int32} {gP gV gC gF gh gs gp gv gd gl : Int32} {yof yfa ype ybe ybl ypa yls ysp yus yva : Nat → Int32} {P V C F : Nat}
theorem qs_mk {k : Nat} (hB : qs_B P V C F) (hA : qs_A P V al yof) (hF : qs_Fc P F mu aff afb yfa) (hP : qs_Pe P V hsu sP sL sH gh ype) (hR : qs_Rl P F rf afb rc fr aru) (hS : qs_Rs P V F al mu afb st rP rV so bl de hlr lb anb gs gp gv gd gl ybe ybl ypa yls) : i_Rel k (nI P, nI V, nI C, al, nI F, mu, hsu, sP, sL, sH, st, rP, rV, so, bl, de, hlr, lb, rc, fr, ol, rf, dm, ts, lv, aff, afb, anb, aru, atc, atr, ald, alt) (nI P, nI V, nI C, nI F, gh, gs, gp, gv, gd, gl, yof, yfa, ype, ybe, ybl, ypa, yls, ysp, yus, yva) :=
  Exists.intro P (Exists.intro V (Exists.intro C (Exists.intro F (And.intro hB (And.intro ⟨rfl, rfl, rfl, rfl, rfl, rfl, rfl, rfl⟩ (And.intro hA (And.intro hF (And.intro hP (And.intro hR hS)))))))))
end
theorem qs_el {k : Nat} {u : SX} {v : SY} {Q : SX → SY → Prop} (I : i_Rel k u v) (h : ∀ P V C F : Nat, ∀ al mu hsu sP sL sH st rP rV so bl de hlr lb rc fr ol rf dm ts lv aff afb anb aru atc atr ald alt gh gs gp gv gd gl yof yfa ype ybe ybl ypa yls ysp yus yva, qs_B P V C F → qs_A P V al yof → qs_Fc P F mu aff afb yfa → qs_Pe P V hsu sP sL sH gh ype → qs_Rl P F rf afb rc fr aru → qs_Rs P V F al mu afb st rP rV so bl de hlr lb anb gs gp gv gd gl ybe ybl ypa yls → Q (nI P, nI V, nI C, al, nI F, mu, hsu, sP, sL, sH, st, rP, rV, so, bl, de, hlr, lb, rc, fr, ol, rf, dm, ts, lv, aff, afb, anb, aru, atc, atr, ald, alt) (nI P, nI V, nI C, nI F, gh, gs, gp, gv, gd, gl, yof, yfa, ype, ybe, ybl, ypa, yls, ysp, yus, yva)) : Q u v := by
  obtain ⟨fP, fV, fC, al, fF, mu, hsu, sP, sL, sH, st, rP, rV, so, bl, de, hlr, lb, rc, fr, ol, rf, dm, ts, lv, aff, afb, anb, aru, atc, atr, ald, alt⟩ := u
  obtain ⟨gP, gV, gC, gF, gh, gs, gp, gv, gd, gl, yof, yfa, ype, ybe, ybl, ypa, yls, ysp, yus, yva⟩ := v
  obtain ⟨P, V, C, F, hB, ⟨e1, e2, e3, e4, e5, e6, e7, e8⟩, hA, hF, hP, hR, hS⟩ := I
  subst e1 e2 e3 e4 e5 e6 e7 e8
  exact h P V C F al mu hsu sP sL sH st rP rV so bl de hlr lb rc fr ol rf dm ts lv aff afb anb aru atc atr ald alt gh gs gp gv gd gl yof yfa ype ybe ybl ypa yls ysp yus yva hB hA hF hP hR hS
theorem i_up {k : Nat} {u : SX} {v : SY} (h : i_Rel k u v) : i_Rel (k + 4) u v := h
/-! arguments -/
theorem qs_pk {P : Nat} (hP : P ≤ 6) (x : Int32) : (x < 0 ∨ nI P ≤ x) ∨ ∃ p, p < P ∧ x = nI p := by
  rcases pk_ix x (n := P) (by omega) with h | h | h
  · exact Or.inl (Or.inl h)
  · exact Or.inl (Or.inr h)
  · exact Or.inr h
theorem qs_vl {V : Nat} (hV : V ≤ 4) (x : Int32) : (x < 0 ∨ nI V < x) ∨ ∃ v, v ≤ V ∧ x = nI v := by
  by_cases h0 : x < 0
  · exact Or.inl (Or.inl h0)
  · obtain ⟨j, hj, rfl⟩ := nI_of h0
    by_cases h : j ≤ V
    · exact Or.inr ⟨j, h, rfl⟩
    · exact Or.inl (Or.inr (nI_lt (by omega) hj))
theorem qs_rg {V : Nat} (hV : V ≤ 4) (lo hi : Int32) : (lo < 1 ∨ nI V < hi ∨ hi < lo) ∨ ∃ l h : Nat, lo = nI l ∧ hi = nI h ∧ 1 ≤ l ∧ l ≤ h ∧ h ≤ V := by
  by_cases h1 : lo < 1
  · exact Or.inl (Or.inl h1)
  by_cases h2 : nI V < hi
  · exact Or.inl (Or.inr (Or.inl h2))
  by_cases h3 : hi < lo
  · exact Or.inl (Or.inr (Or.inr h3))
  have hlo : ¬ lo < 0 := fun z => h1 (Int32.lt_trans z (by decide))
  obtain ⟨l, hl, rfl⟩ := nI_of hlo
  have hhi : ¬ hi < 0 := fun z => h3 (Int32.lt_of_lt_of_le z (nI_pos' hl))
  obtain ⟨h, hh, rfl⟩ := nI_of hhi
  refine Or.inr ⟨l, h, rfl, rfl, ?_, ?_, ?_⟩
  · apply Classical.byContradiction; intro z; exact h1 (nI_lt (b := 1) (by omega) (by omega))
  · apply Classical.byContradiction; intro z; exact h3 (nI_lt (by omega) hl)
  · apply Classical.byContradiction; intro z; exact h2 (nI_lt (by omega) hh)
theorem qs_pkg1 {post : Int32 → Prop} {u : SX} {P p : Nat} (hP : P ≤ 6) (hu : u.1 = nI P) (hp : p < P) (h : post 1) : wpX_isPackage post u (nI p) := by
  obtain ⟨fP, fV, fC, al, fF, mu, hsu, sP, sL, sH, st, rP, rV, so, bl, de, hlr, lb, rc, fr, ol, rf, dm, ts, lv, aff, afb, anb, aru, atc, atr, ald, alt⟩ := u
  have hu' : fP = nI P := hu
  subst hu'
  exact br_f (nI_pos (by omega)) (br_f (nI_ge hp (by omega)) h)
theorem qs_pkg0 {post : Int32 → Prop} {u : SX} {P : Nat} {x : Int32} (hu : u.1 = nI P) (hx : x < 0 ∨ nI P ≤ x) (h : post 0) : wpX_isPackage post u x := by
  obtain ⟨fP, fV, fC, al, fF, mu, hsu, sP, sL, sH, st, rP, rV, so, bl, de, hlr, lb, rc, fr, ol, rf, dm, ts, lv, aff, afb, anb, aru, atc, atr, ald, alt⟩ := u
  have hu' : fP = nI P := hu
  subst hu'
  refine br_c (fun _ => h) (fun hn => ?_)
  rcases hx with hx | hx
  · exact absurd hx hn
  · exact br_t hx h
theorem qs_ver1 {post : Int32 → Prop} {u : SX} {V v : Nat} (hV : V ≤ 4) (hu : u.2.1 = nI V) (h1 : 1 ≤ v) (h2 : v ≤ V) (h : post 1) : wpX_isVersion post u (nI v) := by
  obtain ⟨fP, fV, fC, al, fF, mu, hsu, sP, sL, sH, st, rP, rV, so, bl, de, hlr, lb, rc, fr, ol, rf, dm, ts, lv, aff, afb, anb, aru, atc, atr, ald, alt⟩ := u
  have hu' : fV = nI V := hu
  subst hu'
  exact br_f (nI_nlt (b := 1) h1 (by omega)) (br_f (nI_nlt h2 (by omega)) h)
theorem qs_ver0 {post : Int32 → Prop} {u : SX} {V : Nat} {x : Int32} (hu : u.2.1 = nI V) (hx : x < 1 ∨ nI V < x ∨ x < x) (h : post 0) : wpX_isVersion post u x := by
  obtain ⟨fP, fV, fC, al, fF, mu, hsu, sP, sL, sH, st, rP, rV, so, bl, de, hlr, lb, rc, fr, ol, rf, dm, ts, lv, aff, afb, anb, aru, atc, atr, ald, alt⟩ := u
  have hu' : fV = nI V := hu
  subst hu'
  refine br_c (fun _ => h) (fun hn => ?_)
  rcases hx with hx | hx | hx
  · exact absurd hx hn
  · exact br_t hx h
  · exact absurd hx Int32.lt_irrefl
theorem qs_vlu1 {post : Int32 → Prop} {u : SX} {V v : Nat} (hV : V ≤ 4) (hu : u.2.1 = nI V) (h2 : v ≤ V) (h : post 1) : wpX_isValue post u (nI v) := by
  obtain ⟨fP, fV, fC, al, fF, mu, hsu, sP, sL, sH, st, rP, rV, so, bl, de, hlr, lb, rc, fr, ol, rf, dm, ts, lv, aff, afb, anb, aru, atc, atr, ald, alt⟩ := u
  have hu' : fV = nI V := hu
  subst hu'
  exact br_f (nI_pos (by omega)) (br_f (nI_nlt h2 (by omega)) h)
theorem qs_vlu0 {post : Int32 → Prop} {u : SX} {V : Nat} {x : Int32} (hu : u.2.1 = nI V) (hx : x < 0 ∨ nI V < x) (h : post 0) : wpX_isValue post u x := by
  obtain ⟨fP, fV, fC, al, fF, mu, hsu, sP, sL, sH, st, rP, rV, so, bl, de, hlr, lb, rc, fr, ol, rf, dm, ts, lv, aff, afb, anb, aru, atc, atr, ald, alt⟩ := u
  have hu' : fV = nI V := hu
  subst hu'
  refine br_c (fun _ => h) (fun hn => ?_)
  rcases hx with hx | hx
  · exact absurd hx hn
  · exact br_t hx h
theorem qs_rng1 {post : Int32 → Prop} {u : SX} {V l m : Nat} (hV : V ≤ 4) (hu : u.2.1 = nI V) (h1 : 1 ≤ l) (h2 : l ≤ m) (h3 : m ≤ V) (h : post 1) : wpX_isRange post u (nI l) (nI m) := by
  obtain ⟨fP, fV, fC, al, fF, mu, hsu, sP, sL, sH, st, rP, rV, so, bl, de, hlr, lb, rc, fr, ol, rf, dm, ts, lv, aff, afb, anb, aru, atc, atr, ald, alt⟩ := u
  have hu' : fV = nI V := hu
  subst hu'
  exact br_f (nI_nlt (b := 1) h1 (by omega)) (br_f (nI_nlt h3 (by omega)) (br_f (nI_nlt h2 (by omega)) h))
theorem qs_rng0 {post : Int32 → Prop} {u : SX} {V : Nat} {x y : Int32} (hu : u.2.1 = nI V) (hx : x < 1 ∨ nI V < y ∨ y < x) (h : post 0) : wpX_isRange post u x y := by
  obtain ⟨fP, fV, fC, al, fF, mu, hsu, sP, sL, sH, st, rP, rV, so, bl, de, hlr, lb, rc, fr, ol, rf, dm, ts, lv, aff, afb, anb, aru, atc, atr, ald, alt⟩ := u
  have hu' : fV = nI V := hu
  subst hu'
  refine br_c (fun _ => h) (fun hn => br_c (fun _ => h) (fun hn2 => br_c (fun _ => h) (fun hn3 => ?_)))
  rcases hx with hx | hx | hx
  · exact absurd hx hn
  · exact absurd hx hn2
  · exact absurd hx hn3
theorem qs_bp1 {post : Int32 → Prop} {v : SY} {P p : Nat} (hP : P ≤ 6) (hu : v.1 = nI P) (hp : p < P) (h : post 0) : wpY_badPackage post v (nI p) := by
  obtain ⟨gP, gV, gC, gF, gh, gs, gp, gv, gd, gl, yof, yfa, ype, ybe, ybl, ypa, yls, ysp, yus, yva⟩ := v
  have hu' : gP = nI P := hu
  subst hu'
  exact br_f (nI_pos (by omega)) (br_t (nI_lt hp (by omega)) h)
theorem qs_bp0 {post : Int32 → Prop} {v : SY} {P : Nat} {x : Int32} (hu : v.1 = nI P) (hx : x < 0 ∨ nI P ≤ x) (h : post 1) : wpY_badPackage post v x := by
  obtain ⟨gP, gV, gC, gF, gh, gs, gp, gv, gd, gl, yof, yfa, ype, ybe, ybl, ypa, yls, ysp, yus, yva⟩ := v
  have hu' : gP = nI P := hu
  subst hu'
  refine br_c (fun _ => h) (fun hn => ?_)
  rcases hx with hx | hx
  · exact absurd hx hn
  · exact br_f (Int32.not_lt.mpr hx) h
theorem qs_br1 {post : Int32 → Prop} {v : SY} {P V p l m : Nat} (hP : P ≤ 6) (hV : V ≤ 4) (hu : v.1 = nI P) (hw : v.2.1 = nI V) (hp : p < P) (h1 : 1 ≤ l) (h2 : l ≤ m) (h3 : m ≤ V) (h : post 0) : wpY_badRange post v (nI p) (nI l) (nI m) := by
  obtain ⟨gP, gV, gC, gF, gh, gs, gp, gv, gd, gl, yof, yfa, ype, ybe, ybl, ypa, yls, ysp, yus, yva⟩ := v
  have hu' : gP = nI P := hu
  have hw' : gV = nI V := hw
  subst hu' hw'
  unfold wpY_badRange
  dsimp only
  refine qs_bp1 hP rfl hp ?_
  exact br_t rfl (br_f (nI_nlt (b := 1) h1 (by omega)) (br_f (nI_nlt h3 (by omega)) (br_t (nI_le h2 (by omega)) h)))
theorem qs_br0p {post : Int32 → Prop} {v : SY} {P : Nat} {x y z : Int32} (hu : v.1 = nI P) (hx : x < 0 ∨ nI P ≤ x) (h : post 1) : wpY_badRange post v x y z := by
  obtain ⟨gP, gV, gC, gF, gh, gs, gp, gv, gd, gl, yof, yfa, ype, ybe, ybl, ypa, yls, ysp, yus, yva⟩ := v
  have hu' : gP = nI P := hu
  subst hu'
  unfold wpY_badRange
  dsimp only
  refine qs_bp0 rfl hx ?_
  exact br_f (by decide) h
theorem qs_br0 {post : Int32 → Prop} {v : SY} {V P p : Nat} {y z : Int32} (hP : P ≤ 6) (hu : v.1 = nI P) (hw : v.2.1 = nI V) (hp : p < P) (hx : y < 1 ∨ nI V < z ∨ z < y) (h : post 1) : wpY_badRange post v (nI p) y z := by
  obtain ⟨gP, gV, gC, gF, gh, gs, gp, gv, gd, gl, yof, yfa, ype, ybe, ybl, ypa, yls, ysp, yus, yva⟩ := v
  have hu' : gP = nI P := hu
  have hw' : gV = nI V := hw
  subst hu' hw'
  unfold wpY_badRange
  dsimp only
  refine qs_bp1 hP rfl hp ?_
  refine br_t rfl (br_c (fun _ => h) (fun hn => br_c (fun _ => h) (fun hn2 => br_c (fun hn3 => ?_) (fun _ => h))))
  rcases hx with hx | hx | hx
  · exact absurd hx hn
  · exact absurd hx hn2
  · exact absurd hx (Int32.not_lt.mpr hn3)
end
section
/-! ===== the simple calls ===== -/
section
variable {fP fV fC al fF mu hsu sP sL sH st rP rV so bl de hlr lb rc fr ol rf dm ts lv : Int32} {aff afb anb aru atc atr ald alt : Nat → Int32} {gP gV gC gF gh gs gp gv gd gl : Int32} {yof yfa ype ybe ybl ypa yls ysp yus yva : Nat → Int32} {P V C F : Nat}
theorem qs_drop {post : SX → Prop} (h : post (fP, fV, fC, al, fF, mu, hsu, sP, sL, sH, 0, 0, 0, 0, 0, 0, 0, 0, rc, fr, ol, rf, dm, ts, lv, aff, afb, anb, aru, atc, atr, ald, alt)) : wpX_drop post (fP, fV, fC, al, fF, mu, hsu, sP, sL, sH, st, rP, rV, so, bl, de, hlr, lb, rc, fr, ol, rf, dm, ts, lv, aff, afb, anb, aru, atc, atr, ald, alt) := h
theorem qs_ydrop {post : SY → Prop} (h : post (gP, gV, gC, gF, gh, 0, gp, gv, 0, 0, yof, yfa, ype, ybe, ybl, ypa, yls, ysp, yus, yva)) : wpY_drop post (gP, gV, gC, gF, gh, gs, gp, gv, gd, gl, yof, yfa, ype, ybe, ybl, ypa, yls, ysp, yus, yva) := h
theorem qs_Rs0 {al mu : Int32} {afb : Nat → Int32} : qs_Rs P V F al mu afb 0 rP rV so bl de hlr lb anb 0 gp gv gd gl ybe ybl ypa yls := ⟨rfl, Or.inl rfl⟩
theorem qs_A_or {p v : Nat} (hB : qs_B P V C F) (hA : qs_A P V al yof) (hp : p < P) (h1 : 1 ≤ v) (h2 : v ≤ V) : qs_A P V (al ||| qs_b p v) (upd yof (p * 5 + v) 1) := by
  obtain ⟨_, hP, _, hV, _, _⟩ := hB
  refine ⟨fun i hi hb => ?_, fun q hq => ?_, fun q w hq hw hw5 => ?_⟩
  · rcases qs_ot.mp hb with h | h
    · exact hA.1 i hi h
    · rw [qs_bb (by omega) hi] at h
      have := of_decide_eq_true h
      omega
  · exact qs_ot.mpr (Or.inl (hA.2.1 q hq))
  · by_cases e : q * 5 + w = p * 5 + v
    · rw [e, pk_us, qs_01t]
      exact qs_ot.mpr (Or.inr (by rw [qs_bb (by omega) (by omega)]; exact decide_eq_true rfl))
    · rw [pk_un e, hA.2.2 q w hq hw hw5, b_or, qs_bb (by omega) (by omega), decide_eq_false e, Bool.or_false]
theorem qs_A_an {p v : Nat} (hB : qs_B P V C F) (hA : qs_A P V al yof) (hp : p < P) (h1 : 1 ≤ v) (h2 : v ≤ V) : qs_A P V (al &&& (qs_b p v ^^^ (-1))) (upd yof (p * 5 + v) 0) := by
  obtain ⟨_, hP, _, hV, _, _⟩ := hB
  refine ⟨fun i hi hb => hA.1 i hi ((qs_ant hi).mp hb).1, fun q hq => ?_, fun q w hq hw hw5 => ?_⟩
  · refine (qs_ant (by omega)).mpr ⟨hA.2.1 q hq, ?_⟩
    rw [qs_bb (by omega) (by omega)]
    exact decide_eq_false (by omega)
  · by_cases e : q * 5 + w = p * 5 + v
    · rw [e, pk_us, qs_01f]
      exact qs_tf fun z => by
        have := ((qs_ant (by omega)).mp z).2
        rw [qs_bb (by omega) (by omega), decide_eq_true rfl] at this
        exact absurd this (by decide)
    · rw [pk_un e, hA.2.2 q w hq hw hw5, qs_an _ _ (by omega), qs_bb (by omega) (by omega), decide_eq_false e]
      cases bt al (q * 5 + w) <;> rfl
end
theorem qs_bt0 {x : Int32} {p v : Nat} (h : p * 5 + v < 32) : x &&& qs_b p v = 0 ↔ bt x (p * 5 + v) = false := by
  rw [qs_and0]
  constructor
  · intro hz
    refine qs_tf fun e => ?_
    have := hz _ h e
    rw [qs_bb h h, decide_eq_true rfl] at this
    exact absurd this (by decide)
  · intro hb i hi hx
    rw [qs_bb h hi]
    exact decide_eq_false fun e => by rw [e, hb] at hx; exact absurd hx (by decide)
theorem qs_nar1 : vp_nar .boolean 1 = 1 := rfl
theorem qs_nar0 : vp_nar .boolean 0 = 0 := rfl
theorem qs_vr {V : Nat} (hV : V ≤ 4) (x : Int32) : (x < 1 ∨ nI V < x ∨ x < x) ∨ ∃ v, x = nI v ∧ 1 ≤ v ∧ v ≤ V := by
  rcases qs_rg hV x x with h | ⟨l, m, e, e', h1, h2, h3⟩
  · exact Or.inl h
  · by_cases z : l ≤ V
    · exact Or.inr ⟨l, e, h1, z⟩
    · omega
theorem i_vc_offer {k : Nat} {u : SX} {v : SY} (I : i_Rel k u v) (hk : k + 4 ≤ 2051) (v1 : Int32) (v2 : Int32) : wpX_offer (fun r u' => wpY_offer (fun r' v' => r' = r ∧ i_Rel (k + 4) u' v') v v1 v2) u v1 v2 := by
  refine qs_el (Q := fun u v => wpX_offer (fun r u' => wpY_offer (fun r' v' => r' = r ∧ i_Rel (k + 4) u' v') v v1 v2) u v1 v2) I ?_
  intro P V C F al mu hsu sP sL sH st rP rV so bl de hlr lb rc fr ol rf dm ts lv aff afb anb aru atc atr ald alt gh gs gp gv gd gl yof yfa ype ybe ybl ypa yls ysp yus yva hB hA hFc hPe hRl hRs
  obtain ⟨hP2, hP, hV1, hV, hC, hF⟩ := id hB
  unfold wpX_offer wpY_offer
  dsimp only
  rcases qs_pk hP v1 with hb | ⟨p, hp, rfl⟩
  · refine qs_pkg0 rfl hb (br_t rfl ?_)
    refine qs_br0p rfl hb (br_f (by decide) ?_)
    exact ⟨rfl, qs_mk hB hA hFc hPe hRl hRs⟩
  · refine qs_pkg1 hP rfl hp (br_f (by decide) ?_)
    rcases qs_vr hV v2 with hb | ⟨w, rfl, h1, h2⟩
    · refine qs_ver0 rfl hb (br_t rfl ?_)
      refine qs_br0 hP rfl rfl hp hb (br_f (by decide) ?_)
      exact ⟨rfl, qs_mk hB hA hFc hPe hRl hRs⟩
    · refine qs_ver1 hV rfl h1 h2 (br_f (by decide) ?_)
      refine nm_r (e' := qs_b p w) (by rw [qs_5v]; rfl) ?_
      have hi5 : vp_in (nI p * 5 + nI w) 30 := qs_i5 (by omega) (by omega)
      have ci5 : (nI p * 5 + nI w).toNatClampNeg = p * 5 + w := qs_i5c (by omega) (by omega)
      have hyo := hA.2.2 p w hp h1 (by omega)
      refine ek_if (qs_bt0 (by omega)) (fun hz => ?_) (fun hz => ?_)
      · refine nm_e (qs_drop ?_)
        refine qs_br1 hP hV rfl rfl hp h1 (Nat.le_refl _) h2 (br_t rfl ⟨hi5, ?_⟩)
        rw [ci5, hyo]
        refine br_t (qs_01f hz) ⟨hi5, nm_e (qs_ydrop ?_)⟩
        exact ⟨rfl, qs_mk hB (qs_A_or hB hA hp h1 h2) hFc hPe hRl qs_Rs0⟩
      · refine qs_br1 hP hV rfl rfl hp h1 (Nat.le_refl _) h2 (br_t rfl ⟨hi5, ?_⟩)
        rw [ci5, hyo]
        refine br_f (fun z => hz (qs_010.mp z)) ?_
        exact ⟨rfl, qs_mk hB hA hFc hPe hRl hRs⟩
theorem i_vc_withdraw {k : Nat} {u : SX} {v : SY} (I : i_Rel k u v) (hk : k + 4 ≤ 2051) (v1 : Int32) (v2 : Int32) : wpX_withdraw (fun r u' => wpY_withdraw (fun r' v' => r' = r ∧ i_Rel (k + 4) u' v') v v1 v2) u v1 v2 := by
  refine qs_el (Q := fun u v => wpX_withdraw (fun r u' => wpY_withdraw (fun r' v' => r' = r ∧ i_Rel (k + 4) u' v') v v1 v2) u v1 v2) I ?_
  intro P V C F al mu hsu sP sL sH st rP rV so bl de hlr lb rc fr ol rf dm ts lv aff afb anb aru atc atr ald alt gh gs gp gv gd gl yof yfa ype ybe ybl ypa yls ysp yus yva hB hA hFc hPe hRl hRs
  obtain ⟨hP2, hP, hV1, hV, hC, hF⟩ := id hB
  unfold wpX_withdraw wpY_withdraw
  dsimp only
  rcases qs_pk hP v1 with hb | ⟨p, hp, rfl⟩
  · refine qs_pkg0 rfl hb (br_t rfl ?_)
    refine qs_br0p rfl hb (br_f (by decide) ?_)
    exact ⟨rfl, qs_mk hB hA hFc hPe hRl hRs⟩
  · refine qs_pkg1 hP rfl hp (br_f (by decide) ?_)
    rcases qs_vr hV v2 with hb | ⟨w, rfl, h1, h2⟩
    · refine qs_ver0 rfl hb (br_t rfl ?_)
      refine qs_br0 hP rfl rfl hp hb (br_f (by decide) ?_)
      exact ⟨rfl, qs_mk hB hA hFc hPe hRl hRs⟩
    · refine qs_ver1 hV rfl h1 h2 (br_f (by decide) ?_)
      refine nm_r (e' := qs_b p w) (by rw [qs_5v]; rfl) ?_
      have hi5 : vp_in (nI p * 5 + nI w) 30 := qs_i5 (by omega) (by omega)
      have ci5 : (nI p * 5 + nI w).toNatClampNeg = p * 5 + w := qs_i5c (by omega) (by omega)
      have hyo := hA.2.2 p w hp h1 (by omega)
      refine ek_if (qs_bt0 (by omega)) (fun hz => ?_) (fun hz => ?_)
      · refine qs_br1 hP hV rfl rfl hp h1 (Nat.le_refl _) h2 (br_t rfl ⟨hi5, ?_⟩)
        rw [ci5, hyo]
        refine br_t (qs_01f hz) ?_
        exact ⟨rfl, qs_mk hB hA hFc hPe hRl hRs⟩
      · refine nm_e (qs_drop ?_)
        refine qs_br1 hP hV rfl rfl hp h1 (Nat.le_refl _) h2 (br_t rfl ⟨hi5, ?_⟩)
        rw [ci5, hyo]
        refine br_f (fun z => hz (qs_010.mp z)) ⟨hi5, nm_e (qs_ydrop ?_)⟩
        exact ⟨rfl, qs_mk hB (qs_A_an hB hA hp h1 h2) hFc hPe hRl qs_Rs0⟩
theorem i_vc_offered {k : Nat} {u : SX} {v : SY} (I : i_Rel k u v) (hk : k + 4 ≤ 2051) (v1 : Int32) (v2 : Int32) : wpX_offered (fun r => wpY_offered (fun r' => r' = r ∧ i_Rel (k + 4) u v) v v1 v2) u v1 v2 := by
  refine qs_el (Q := fun u v => wpX_offered (fun r => wpY_offered (fun r' => r' = r ∧ i_Rel (k + 4) u v) v v1 v2) u v1 v2) I ?_
  intro P V C F al mu hsu sP sL sH st rP rV so bl de hlr lb rc fr ol rf dm ts lv aff afb anb aru atc atr ald alt gh gs gp gv gd gl yof yfa ype ybe ybl ypa yls ysp yus yva hB hA hFc hPe hRl hRs
  obtain ⟨hP2, hP, hV1, hV, hC, hF⟩ := id hB
  unfold wpX_offered wpY_offered
  dsimp only
  rcases qs_pk hP v1 with hb | ⟨p, hp, rfl⟩
  · refine qs_pkg0 rfl hb (br_t rfl ?_)
    refine qs_br0p rfl hb (br_f (by decide) ?_)
    exact ⟨rfl, qs_mk hB hA hFc hPe hRl hRs⟩
  · refine qs_pkg1 hP rfl hp (br_f (by decide) ?_)
    rcases qs_vr hV v2 with hb | ⟨w, rfl, h1, h2⟩
    · refine qs_ver0 rfl hb (br_t rfl ?_)
      refine qs_br0 hP rfl rfl hp hb (br_f (by decide) ?_)
      exact ⟨rfl, qs_mk hB hA hFc hPe hRl hRs⟩
    · refine qs_ver1 hV rfl h1 h2 (br_f (by decide) ?_)
      refine qs_ct (by omega) ?_
      have hi5 : vp_in (nI p * 5 + nI w) 30 := qs_i5 (by omega) (by omega)
      have ci5 : (nI p * 5 + nI w).toNatClampNeg = p * 5 + w := qs_i5c (by omega) (by omega)
      refine qs_br1 hP hV rfl rfl hp h1 (Nat.le_refl _) h2 (br_t rfl ⟨hi5, ?_⟩)
      rw [ci5, hA.2.2 p w hp h1 (by omega)]
      refine br_c (fun hz => ?_) (fun hz => ?_)
      · exact ⟨hz.symm, qs_mk hB hA hFc hPe hRl hRs⟩
      · refine ⟨?_, qs_mk hB hA hFc hPe hRl hRs⟩
        cases e : bt al (p * 5 + w)
        · exact absurd (qs_010.mpr e) hz
        · rfl
theorem i_vc_subject {k : Nat} {u : SX} {v : SY} (I : i_Rel k u v) (hk : k + 4 ≤ 2051) (v1 : Int32) (v2 : Int32) (v3 : Int32) : wpX_subject (fun r u' => wpY_subject (fun r' v' => r' = r ∧ i_Rel (k + 4) u' v') v v1 v2 v3) u v1 v2 v3 := by
  refine qs_el (Q := fun u v => wpX_subject (fun r u' => wpY_subject (fun r' v' => r' = r ∧ i_Rel (k + 4) u' v') v v1 v2 v3) u v1 v2 v3) I ?_
  intro P V C F al mu hsu sP sL sH st rP rV so bl de hlr lb rc fr ol rf dm ts lv aff afb anb aru atc atr ald alt gh gs gp gv gd gl yof yfa ype ybe ybl ypa yls ysp yus yva hB hA hFc hPe hRl hRs
  obtain ⟨hP2, hP, hV1, hV, hC, hF⟩ := id hB
  unfold wpX_subject wpY_subject
  dsimp only
  rcases qs_pk hP v1 with hb | ⟨p, hp, rfl⟩
  · refine qs_pkg0 rfl hb (br_t rfl ?_)
    refine qs_br0p rfl hb (br_f (by decide) ?_)
    exact ⟨rfl, qs_mk hB hA hFc hPe hRl hRs⟩
  · refine qs_pkg1 hP rfl hp (br_f (by decide) ?_)
    rcases qs_rg hV v2 v3 with hb | ⟨l, m, rfl, rfl, h1, h2, h3⟩
    · refine qs_rng0 rfl hb (br_t rfl ?_)
      refine qs_br0 hP rfl rfl hp hb (br_f (by decide) ?_)
      exact ⟨rfl, qs_mk hB hA hFc hPe hRl hRs⟩
    · refine qs_rng1 hV rfl h1 h2 h3 (br_f (by decide) ?_)
      refine qs_br1 hP hV rfl rfl hp h1 h2 h3 (br_t rfl ?_)
      refine nm_e (nm_e (nm_e ?_))
      exact ⟨rfl, qs_mk hB hA hFc (Or.inr ⟨rfl, rfl, p, l, m, hp, h1, h2, h3, rfl, rfl, rfl, rfl, rfl, rfl⟩) hRl hRs⟩
theorem i_vc_pending {k : Nat} {u : SX} {v : SY} (I : i_Rel k u v) (hk : k + 4 ≤ 2051) (v1 : Int32) : wpX_pending (fun r => wpY_pending (fun r' => r' = r ∧ i_Rel (k + 4) u v) v v1) u v1 := by
  refine qs_el (Q := fun u v => wpX_pending (fun r => wpY_pending (fun r' => r' = r ∧ i_Rel (k + 4) u v) v v1) u v1) I ?_
  intro P V C F al mu hsu sP sL sH st rP rV so bl de hlr lb rc fr ol rf dm ts lv aff afb anb aru atc atr ald alt gh gs gp gv gd gl yof yfa ype ybe ybl ypa yls ysp yus yva hB hA hFc hPe hRl hRs
  have hm : i_Rel (k + 4) (nI P, nI V, nI C, al, nI F, mu, hsu, sP, sL, sH, st, rP, rV, so, bl, de, hlr, lb, rc, fr, ol, rf, dm, ts, lv, aff, afb, anb, aru, atc, atr, ald, alt) (nI P, nI V, nI C, nI F, gh, gs, gp, gv, gd, gl, yof, yfa, ype, ybe, ybl, ypa, yls, ysp, yus, yva) := qs_mk hB hA hFc hPe hRl hRs
  have key : ∀ j : Nat, 1 ≤ j → j ≤ 3 → ∀ x : Int32, (hsu = 1 → ype j = x) → (((hsu = 0 → wpY_pending (fun r' => r' = -5 ∧ i_Rel (k + 4) (nI P, nI V, nI C, al, nI F, mu, hsu, sP, sL, sH, st, rP, rV, so, bl, de, hlr, lb, rc, fr, ol, rf, dm, ts, lv, aff, afb, anb, aru, atc, atr, ald, alt) (nI P, nI V, nI C, nI F, gh, gs, gp, gv, gd, gl, yof, yfa, ype, ybe, ybl, ypa, yls, ysp, yus, yva)) (nI P, nI V, nI C, nI F, gh, gs, gp, gv, gd, gl, yof, yfa, ype, ybe, ybl, ypa, yls, ysp, yus, yva) (nI j)) ∧ (¬ hsu = 0 → wpY_pending (fun r' => r' = x ∧ i_Rel (k + 4) (nI P, nI V, nI C, al, nI F, mu, hsu, sP, sL, sH, st, rP, rV, so, bl, de, hlr, lb, rc, fr, ol, rf, dm, ts, lv, aff, afb, anb, aru, atc, atr, ald, alt) (nI P, nI V, nI C, nI F, gh, gs, gp, gv, gd, gl, yof, yfa, ype, ybe, ybl, ypa, yls, ysp, yus, yva)) (nI P, nI V, nI C, nI F, gh, gs, gp, gv, gd, gl, yof, yfa, ype, ybe, ybl, ypa, yls, ysp, yus, yva) (nI j)))) := by
    intro j h1 h2 x hx
    rcases hPe with ⟨e1, e2⟩ | ⟨e1, e2, _⟩
    · exact br_t e1 (br_f (nI_nlt (b := 1) h1 (by omega)) (br_t (nI_le (b := 3) h2 (by omega)) (br_t e2 ⟨rfl, hm⟩)))
    · refine br_f (by rw [e1]; decide) (br_f (nI_nlt (b := 1) h1 (by omega)) (br_t (nI_le (b := 3) h2 (by omega)) (br_f (by rw [e2]; decide) ⟨pk_in j 4 (by omega), ?_, hm⟩)))
      rw [nI_clamp (by omega)]
      exact hx e1
  have hp : hsu = 1 → ype 1 = sP ∧ ype 2 = sL ∧ ype 3 = sH := by
    intro e
    rcases hPe with ⟨e1, e2⟩ | ⟨e1, e2, p, l, m, _, _, _, _, a1, a2, a3, a4, a5, a6⟩
    · rw [e1] at e; exact absurd e (by decide)
    · rw [a1, a2, a3]; exact ⟨a4, a5, a6⟩
  by_cases e1 : v1 = 1
  · subst e1
    refine br_t rfl ?_
    have h := key 1 (by omega) (by omega) sP (fun z => (hp z).1)
    exact ⟨h.1, fun z => br_t rfl (h.2 z)⟩
  · by_cases e2 : v1 = 2
    · subst e2
      refine br_f (by decide) (br_t rfl ?_)
      have h := key 2 (by omega) (by omega) sL (fun z => (hp z).2.1)
      exact ⟨h.1, fun z => br_f (by decide) (br_t rfl (h.2 z))⟩
    · by_cases e3 : v1 = 3
      · subst e3
        refine br_f (by decide) (br_f (by decide) (br_t rfl ?_))
        have h := key 3 (by omega) (by omega) sH (fun z => (hp z).2.2)
        exact ⟨h.1, fun z => br_f (by decide) (br_f (by decide) (h.2 z))⟩
      · refine br_f e1 (br_f e2 (br_f e3 ?_))
        refine br_c (fun _ => ⟨rfl, hm⟩) (fun h1 => br_c (fun h3 => ?_) (fun _ => ⟨rfl, hm⟩))
        exfalso
        obtain ⟨j, hj, rfl⟩ := nI_of2 (n := 3) (by decide) (fun z => h1 (Int32.lt_trans z (by decide))) h3
        have : j = 0 ∨ j = 1 ∨ j = 2 ∨ j = 3 := by omega
        rcases this with rfl | rfl | rfl | rfl
        · exact h1 (by decide)
        · exact e1 rfl
        · exact e2 rfl
        · exact e3 rfl
end
section
/-! ===== mute, fact, status, root, chosen, ascend, learned, the constructors ===== -/
theorem qs_fact_c {P : Nat} {b : Int32} {y y' : Nat → Int32} {f : Nat} (h : ∀ i, i < 7 → y' (f * 8 + i) = y (f * 8 + i)) : qs_fact P b y f → qs_fact P b y' f := by
  intro ⟨kd, s, sl, sh, o, ol, oh, ⟨a0, a1, a2, a3, a4, a5, a6⟩, hr⟩
  exact ⟨kd, s, sl, sh, o, ol, oh, ⟨by rw [h 0 (by omega)]; exact a0, by rw [h 1 (by omega)]; exact a1, by rw [h 2 (by omega)]; exact a2, by rw [h 3 (by omega)]; exact a3, by rw [h 4 (by omega)]; exact a4, by rw [h 5 (by omega)]; exact a5, by rw [h 6 (by omega)]; exact a6⟩, hr⟩
theorem qs_Fc_mute {P F j : Nat} {mu : Int32} {aff afb yfa : Nat → Int32} (hF : F ≤ 20) (h : qs_Fc P F mu aff afb yfa) (hj : j < F) : qs_Fc P F (mu ^^^ ((1 : Int32) <<< (nI j &&& 31))) aff afb (upd yfa (j * 8 + 7) (qs_01 (!bt mu j))) := by
  refine ⟨fun f hf => ?_, fun f hf => ?_⟩
  · by_cases h32 : f < 32
    · rw [b_xor, h.1 f hf, qs_1b j (by omega) f h32, decide_eq_false (by omega)]; rfl
    · exact b_big (by omega)
  · obtain ⟨h1, h2, h3⟩ := h.2 f hf
    refine ⟨qs_fact_c (fun i hi => pk_un (by omega)) h1, fun i hi => ?_, ?_⟩
    · rw [h2 i hi, pk_un (by omega)]
    · rw [b_xor, qs_1b j (by omega) f (by omega)]
      by_cases e : f = j
      · subst e
        rw [pk_us, decide_eq_true rfl]
        cases bt mu f <;> rfl
      · rw [pk_un (by omega), h3, decide_eq_false e]
        cases bt mu f <;> rfl
theorem qs_and1 {x : Int32} {j : Nat} (hj : j < 32) : x &&& ((1 : Int32) <<< (nI j &&& 31)) = 0 ↔ bt x j = false := by
  rw [qs_and0]
  constructor
  · intro hz
    refine qs_tf fun e => ?_
    have := hz _ hj e
    rw [qs_1b j hj j hj, decide_eq_true rfl] at this
    exact absurd this (by decide)
  · intro hb i hi hx
    rw [qs_1b j hj i hi]
    exact decide_eq_false fun e => by rw [e, hb] at hx; exact absurd hx (by decide)
theorem i_vc_mute {k : Nat} {u : SX} {v : SY} (I : i_Rel k u v) (hk : k + 4 ≤ 2051) (v1 : Int32) (v2 : Int32) : wpX_mute (fun r u' => wpY_mute (fun r' v' => r' = r ∧ i_Rel (k + 4) u' v') v v1 (lw_bz v2)) u v1 (lw_bz v2) := by
  refine qs_el (Q := fun u v => wpX_mute (fun r u' => wpY_mute (fun r' v' => r' = r ∧ i_Rel (k + 4) u' v') v v1 (lw_bz v2)) u v1 (lw_bz v2)) I ?_
  intro P V C F al mu hsu sP sL sH st rP rV so bl de hlr lb rc fr ol rf dm ts lv aff afb anb aru atc atr ald alt gh gs gp gv gd gl yof yfa ype ybe ybl ypa yls ysp yus yva hB hA hFc hPe hRl hRs
  obtain ⟨hP2, hP, hV1, hV, hC, hF⟩ := id hB
  have h01 := lw_bz_01 v2
  generalize lw_bz v2 = b at h01 ⊢
  rcases pk_ix v1 (n := F) (by omega) with h | h | ⟨j, hj, rfl⟩
  · exact br_t h (br_t h ⟨rfl, qs_mk hB hA hFc hPe hRl hRs⟩)
  · have h0 : ¬ v1 < 0 := Int32.not_lt.mpr (Int32.le_trans (nI_pos' (by omega)) h)
    have h2 : ¬ v1 < nI F := Int32.not_lt.mpr h
    exact br_f h0 (br_f h2 (br_f h0 (br_f h2 ⟨rfl, qs_mk hB hA hFc hPe hRl hRs⟩)))
  · have h0 : ¬ nI j < 0 := nI_pos (by omega)
    have h2 : nI j < nI F := nI_lt hj (by omega)
    have c7 : (nI j * 8 + 7).toNatClampNeg = j * 8 + 7 := qs_i8c (j := 7) (by omega) (by omega)
    have i7 : vp_in (nI j * 8 + 7) 160 := qs_i8 (j := 7) (by omega) (by omega)
    have e7 := (hFc.2 j hj).2.2
    have hmu := qs_Fc_mute (by omega) hFc hj
    refine br_f h0 (br_t h2 (nm_e (ek_if (qs_and1 (by omega)) (fun hz => ?_) (fun hz => ?_))))
    · rw [hz] at e7 hmu
      rcases h01 with rfl | rfl
      · refine br_t rfl (br_f h0 (br_t h2 ⟨i7, ?_⟩))
        rw [c7, e7]
        exact br_f (by decide) (br_t rfl ⟨rfl, qs_mk hB hA hFc hPe hRl hRs⟩)
      · refine br_f (by decide) (nm_e (qs_drop (br_f h0 (br_t h2 ⟨i7, ?_⟩))))
        rw [c7, e7]
        refine br_f (by decide) (br_f (by decide) (br_f (by decide) ⟨i7, nm_r (e' := upd yfa (j * 8 + 7) 1) (by rw [c7]) (qs_ydrop ?_)⟩))
        exact ⟨rfl, qs_mk hB hA hmu hPe hRl qs_Rs0⟩
    · have hz' : bt mu j = true := by
        cases e : bt mu j
        · exact absurd e hz
        · rfl
      rw [hz'] at e7 hmu
      rcases h01 with rfl | rfl
      · refine br_f (by decide) (nm_e (qs_drop (br_f h0 (br_t h2 ⟨i7, ?_⟩))))
        rw [c7, e7]
        refine br_t rfl (br_f (by decide) (br_t rfl ⟨i7, nm_r (e' := upd yfa (j * 8 + 7) 0) (by rw [c7]) (qs_ydrop ?_)⟩))
        exact ⟨rfl, qs_mk hB hA hmu hPe hRl qs_Rs0⟩
      · refine br_t rfl (br_f h0 (br_t h2 ⟨i7, ?_⟩))
        rw [c7, e7]
        exact br_t rfl (br_t rfl ⟨rfl, qs_mk hB hA hFc hPe hRl hRs⟩)
theorem i_vc_factCount {k : Nat} {u : SX} {v : SY} (I : i_Rel k u v) (hk : k + 4 ≤ 2051) : wpX_factCount (fun r => wpY_factCount (fun r' => r' = r ∧ i_Rel (k + 4) u v) v) u := by
  refine qs_el (Q := fun u v => wpX_factCount (fun r => wpY_factCount (fun r' => r' = r ∧ i_Rel (k + 4) u v) v) u) I ?_
  intro P V C F al mu hsu sP sL sH st rP rV so bl de hlr lb rc fr ol rf dm ts lv aff afb anb aru atc atr ald alt gh gs gp gv gd gl yof yfa ype ybe ybl ypa yls ysp yus yva hB hA hFc hPe hRl hRs
  exact And.intro rfl (qs_mk hB hA hFc hPe hRl hRs)
theorem i_vc_status {k : Nat} {u : SX} {v : SY} (I : i_Rel k u v) (hk : k + 4 ≤ 2051) : wpX_status (fun r => wpY_status (fun r' => r' = r ∧ i_Rel (k + 4) u v) v) u := by
  refine qs_el (Q := fun u v => wpX_status (fun r => wpY_status (fun r' => r' = r ∧ i_Rel (k + 4) u v) v) u) I ?_
  intro P V C F al mu hsu sP sL sH st rP rV so bl de hlr lb rc fr ol rf dm ts lv aff afb anb aru atc atr ald alt gh gs gp gv gd gl yof yfa ype ybe ybl ypa yls ysp yus yva hB hA hFc hPe hRl hRs
  exact And.intro hRs.1 (qs_mk hB hA hFc hPe hRl hRs)
theorem i_vc_root {k : Nat} {u : SX} {v : SY} (I : i_Rel k u v) (hk : k + 4 ≤ 2051) : wpX_root (fun r => wpY_root (fun r' => r' = r ∧ i_Rel (k + 4) u v) v) u := by
  refine qs_el (Q := fun u v => wpX_root (fun r => wpY_root (fun r' => r' = r ∧ i_Rel (k + 4) u v) v) u) I ?_
  intro P V C F al mu hsu sP sL sH st rP rV so bl de hlr lb rc fr ol rf dm ts lv aff afb anb aru atc atr ald alt gh gs gp gv gd gl yof yfa ype ybe ybl ypa yls ysp yus yva hB hA hFc hPe hRl hRs
  have hm : i_Rel (k + 4) (nI P, nI V, nI C, al, nI F, mu, hsu, sP, sL, sH, st, rP, rV, so, bl, de, hlr, lb, rc, fr, ol, rf, dm, ts, lv, aff, afb, anb, aru, atc, atr, ald, alt) (nI P, nI V, nI C, nI F, gh, gs, gp, gv, gd, gl, yof, yfa, ype, ybe, ybl, ypa, yls, ysp, yus, yva) := qs_mk hB hA hFc hPe hRl hRs
  obtain ⟨e, hr⟩ := hRs
  subst e
  refine br_c (fun h => br_t h ⟨rfl, hm⟩) (fun h => br_f h ⟨?_, hm⟩)
  rcases hr with hr | ⟨rp, rv, _, _, _, e1, e2, e3, e4, _⟩
  · exact absurd hr h
  · rw [e1, e2, e3, e4]
theorem i_vc_fact {k : Nat} {u : SX} {v : SY} (I : i_Rel k u v) (hk : k + 4 ≤ 2051) (v1 : Int32) (v2 : Int32) : wpX_fact (fun r => wpY_fact (fun r' => r' = r ∧ i_Rel (k + 4) u v) v v1 v2) u v1 v2 := by
  refine qs_el (Q := fun u v => wpX_fact (fun r => wpY_fact (fun r' => r' = r ∧ i_Rel (k + 4) u v) v v1 v2) u v1 v2) I ?_
  intro P V C F al mu hsu sP sL sH st rP rV so bl de hlr lb rc fr ol rf dm ts lv aff afb anb aru atc atr ald alt gh gs gp gv gd gl yof yfa ype ybe ybl ypa yls ysp yus yva hB hA hFc hPe hRl hRs
  obtain ⟨hP2, hP, hV1, hV, hC, hF⟩ := id hB
  have hm : i_Rel (k + 4) (nI P, nI V, nI C, al, nI F, mu, hsu, sP, sL, sH, st, rP, rV, so, bl, de, hlr, lb, rc, fr, ol, rf, dm, ts, lv, aff, afb, anb, aru, atc, atr, ald, alt) (nI P, nI V, nI C, nI F, gh, gs, gp, gv, gd, gl, yof, yfa, ype, ybe, ybl, ypa, yls, ysp, yus, yva) := qs_mk hB hA hFc hPe hRl hRs
  rcases pk_ix v1 (n := F) (by omega) with h | h | ⟨j, hj, rfl⟩
  · exact br_t h (br_t h ⟨rfl, hm⟩)
  · have h0 : ¬ v1 < 0 := Int32.not_lt.mpr (Int32.le_trans (nI_pos' (by omega)) h)
    exact br_f h0 (br_t h (br_f h0 (br_t h ⟨rfl, hm⟩)))
  · have h0 : ¬ nI j < 0 := nI_pos (by omega)
    have h2 : ¬ nI F ≤ nI j := nI_ge hj (by omega)
    refine br_f h0 (br_f h2 (br_c (fun h => ?_) (fun h => br_c (fun h8 => ?_) (fun h8 => ?_))))
    · exact br_f h0 (br_f h2 (br_t h ⟨rfl, hm⟩))
    · obtain ⟨i, hi, rfl⟩ := nI_of2 (n := 8) (by decide) h h8
      obtain ⟨f1, f2, f3⟩ := hFc.2 j hj
      have c8 : ∀ i, i < 8 → (nI j * 8 + nI i).toNatClampNeg = j * 8 + i := fun i hi => qs_i8c (by omega) hi
      have i8 : ∀ i, i < 8 → vp_in (nI j * 8 + nI i) 160 := fun i hi => qs_i8 (by omega) hi
      refine pk_eq i 7 (fun e7 => ?_) (fun e7 => pk_eq i 8 (fun e8 => ?_) (fun e8 => ?_))
      · subst e7
        refine br_f h0 (br_f h2 (br_f h (br_t h8 (br_f (by decide) ⟨i8 7 (by omega), ?_, hm⟩))))
        rw [c8 7 (by omega), f3, qs_bitI mu (by omega)]
      · subst e8
        obtain ⟨e, hr⟩ := hRs
        subst e
        refine br_c (fun h3 => ?_) (fun h3 => br_f h0 (br_f h2 (br_f h (br_t h8 (br_t rfl (br_f h3 ⟨rfl, hm⟩))))))
        have hyb : ybl j = qs_01 (bt bl j) := by
          rcases hr with hr | ⟨rp, rv, _, _, _, _, _, _, _, _, hr⟩
          · rw [hr] at h3; exact absurd h3 (by decide)
          · rcases hr with ⟨hr, _⟩ | ⟨hr, _⟩ | ⟨_, _, hr⟩
            · rw [hr] at h3; exact absurd h3 (by decide)
            · rw [hr] at h3; exact absurd h3 (by decide)
            · exact hr.2.2.1 j hj
        rw [qs_bitI bl (by omega)]
        refine br_f h0 (br_f h2 (br_f h (br_t h8 (br_t rfl (br_t h3 ⟨pk_in j 20 (by omega), ?_⟩)))))
        rw [nI_clamp (by omega), hyb]
        refine br_c (fun hz => ⟨hz.symm, hm⟩) (fun hz => ⟨?_, hm⟩)
        cases e : bt bl j
        · exact absurd (qs_010.mpr e) hz
        · rfl
      · have c7 : (nI j * 7 + nI i).toNatClampNeg = j * 7 + i := by rw [qs_7y, nI_clamp (by omega)]
        refine ⟨by rw [qs_7y]; exact vp_in_nI (by omega) (by omega), ?_⟩
        refine br_f h0 (br_f h2 (br_f h (br_t h8 (br_f (fun z => e8 ((nI_eq (a := i) (b := 8) (by omega) (by omega)).mp z)) ⟨i8 i (by omega), ?_, hm⟩))))
        rw [c8 i (by omega), c7, f2 i (by omega)]
    · exact br_f h0 (br_f h2 (br_f h (br_f h8 ⟨rfl, hm⟩)))
theorem i_vc_chosen {k : Nat} {u : SX} {v : SY} (I : i_Rel k u v) (hk : k + 4 ≤ 2051) (v1 : Int32) : wpX_chosen (fun r => wpY_chosen (fun r' => r' = r ∧ i_Rel (k + 4) u v) v v1) u v1 := by
  refine qs_el (Q := fun u v => wpX_chosen (fun r => wpY_chosen (fun r' => r' = r ∧ i_Rel (k + 4) u v) v v1) u v1) I ?_
  intro P V C F al mu hsu sP sL sH st rP rV so bl de hlr lb rc fr ol rf dm ts lv aff afb anb aru atc atr ald alt gh gs gp gv gd gl yof yfa ype ybe ybl ypa yls ysp yus yva hB hA hFc hPe hRl hRs
  obtain ⟨hP2, hP, hV1, hV, hC, hF⟩ := id hB
  have hm : i_Rel (k + 4) (nI P, nI V, nI C, al, nI F, mu, hsu, sP, sL, sH, st, rP, rV, so, bl, de, hlr, lb, rc, fr, ol, rf, dm, ts, lv, aff, afb, anb, aru, atc, atr, ald, alt) (nI P, nI V, nI C, nI F, gh, gs, gp, gv, gd, gl, yof, yfa, ype, ybe, ybl, ypa, yls, ysp, yus, yva) := qs_mk hB hA hFc hPe hRl hRs
  obtain ⟨e, hr⟩ := hRs
  subst e
  unfold wpX_chosen wpY_chosen
  dsimp only
  refine br_c (fun h1 => ?_) (fun h1 => br_f h1 ⟨rfl, hm⟩)
  rcases qs_pk hP v1 with hb | ⟨p, hp, rfl⟩
  · refine qs_pkg0 rfl hb (br_t rfl (br_t h1 ?_))
    exact qs_bp0 rfl hb (br_f (by decide) ⟨rfl, hm⟩)
  · refine qs_pkg1 hP rfl hp (br_f (by decide) ?_)
    rcases hr with hr | ⟨rp, rv, _, _, _, _, _, _, _, _, hr⟩
    · rw [hr] at h1; exact absurd h1 (by decide)
    · rcases hr with ⟨_, b, hb, hin, hcl, hreg, hyb⟩ | ⟨hr, _⟩ | ⟨hr, _⟩
      · have hb5 := hb.1.1 p hp
        refine qs_bv hV rfl (by omega) ⟨b p, hb5, hin p hp⟩ (fun w hw hbw => by have := (hreg _ (by omega) hbw).2; omega) (fun w hw => ?_)
        have e : w = b p := hcl p hp w (b p) hw.1 hb5 hw.2.1 (hin p hp)
        refine br_t h1 (qs_bp1 hP rfl hp (br_t rfl ⟨pk_in p 6 (by omega), ?_, hm⟩))
        rw [nI_clamp (by omega), hyb p hp, e]
      · rw [hr] at h1; exact absurd h1 (by decide)
      · rw [hr] at h1; exact absurd h1 (by decide)
theorem qs_Rs3 {P V F : Nat} {al mu : Int32} {afb : Nat → Int32} {st rP rV so bl de hlr lb : Int32} {anb : Nat → Int32} {gs gp gv gd gl : Int32} {ybe ybl ypa yls : Nat → Int32} (h : qs_Rs P V F al mu afb st rP rV so bl de hlr lb anb gs gp gv gd gl ybe ybl ypa yls) (h3 : st = 3) :
    ∃ rp rv : Nat, rp < P ∧ 1 ≤ rv ∧ rv ≤ V ∧ rP = nI rp ∧ rV = nI rv ∧ gp = nI rp ∧ gv = nI rv ∧ bt al (rp * 5 + rv) = true ∧ qs_no P F (qs_act F mu) afb (qs_wo al rp rv) ∧ qs_Ex P V F al afb (qs_wo al rp rv) bl de hlr lb anb gd gl ybl ypa yls := by
  rcases h.2 with h | ⟨rp, rv, a1, a2, a3, a4, a5, a6, a7, a8, h⟩
  · rw [h] at h3; exact absurd h3 (by decide)
  · rcases h with ⟨h, _⟩ | ⟨h, _⟩ | ⟨_, h1, h2⟩
    · rw [h] at h3; exact absurd h3 (by decide)
    · rw [h] at h3; exact absurd h3 (by decide)
    · exact ⟨rp, rv, a1, a2, a3, a4, a5, a6, a7, a8, h1, h2⟩
theorem qs_nd_le {P : Nat} {top : Int32} {anb ypa : Nat → Int32} {dd : Nat} (hP : P ≤ 6) (h : qs_nd P top anb ypa dd) : ∀ d, d ≤ dd → d ≤ P ∧ ∀ q, q < d → qs_cl (anb d) q := by
  intro d
  induction d with
  | zero => intro _; exact ⟨Nat.zero_le _, fun q hq => absurd hq (by omega)⟩
  | succ d ih =>
    intro hd
    obtain ⟨h1, h2⟩ := ih (by omega)
    obtain ⟨p, v, hp, hv, ho, hc, hb, _, e⟩ := h.2 d (by omega)
    have hdp : d ≤ p := by
      apply Classical.byContradiction
      intro z
      exact ho (h2 p (by omega))
    refine ⟨by omega, fun q hq => ?_⟩
    rw [e]
    intro a b ha hb' h1 h2
    have hbit : ∀ w, w < 5 → bt (qs_wo (anb d) p v) (q * 5 + w) = true → (q = p ∧ w = v) ∨ (q ≠ p ∧ bt (anb d) (q * 5 + w) = true) := by
      intro w hw hbw
      rcases qs_ot.mp hbw with z | z
      · have z' := (qs_ant (by omega)).mp z
        by_cases eq : q = p
        · rw [eq, (qs_gt (by omega) (by omega)).mpr (by omega)] at z'
          exact absurd z'.2 (by decide)
        · exact Or.inr ⟨eq, z'.1⟩
      · rw [qs_bb (by omega) (by omega)] at z
        have := of_decide_eq_true z
        exact Or.inl (by omega)
    rcases hbit a ha h1 with z1 | z1 <;> rcases hbit b hb' h2 with z2 | z2
    · omega
    · exact absurd z1.1 z2.1
    · exact absurd z2.1 z1.1
    · exact hc q (by omega) a b ha hb' z1.2 z2.2
theorem i_vc_ascend {k : Nat} {u : SX} {v : SY} (I : i_Rel k u v) (hk : k + 4 ≤ 2051) : wpX_ascend (fun r u' => wpY_ascend (fun r' v' => r' = r ∧ i_Rel (k + 4) u' v') v) u := by
  refine qs_el (Q := fun u v => wpX_ascend (fun r u' => wpY_ascend (fun r' v' => r' = r ∧ i_Rel (k + 4) u' v') v) u) I ?_
  intro P V C F al mu hsu sP sL sH st rP rV so bl de hlr lb rc fr ol rf dm ts lv aff afb anb aru atc atr ald alt gh gs gp gv gd gl yof yfa ype ybe ybl ypa yls ysp yus yva hB hA hFc hPe hRl hRs
  obtain ⟨hP2, hP, hV1, hV, hC, hF⟩ := id hB
  have hm : i_Rel (k + 4) (nI P, nI V, nI C, al, nI F, mu, hsu, sP, sL, sH, st, rP, rV, so, bl, de, hlr, lb, rc, fr, ol, rf, dm, ts, lv, aff, afb, anb, aru, atc, atr, ald, alt) (nI P, nI V, nI C, nI F, gh, gs, gp, gv, gd, gl, yof, yfa, ype, ybe, ybl, ypa, yls, ysp, yus, yva) := qs_mk hB hA hFc hPe hRl hRs
  have hgs := hRs.1
  subst hgs
  refine br_c (fun h3 => ?_) (fun h3 => br_f h3 ⟨rfl, hm⟩)
  obtain ⟨rp, rv, a1, a2, a3, a4, a5, a6, a7, a8, a9, b1, b2, b3, dd, b4, b5, b6, b7⟩ := qs_Rs3 hRs h3
  subst b4 b5
  have hdd := (qs_nd_le hP b6 dd (Nat.le_refl _)).1
  refine pk_lt 0 dd (fun h => ?_) (fun h => ?_)
  · obtain ⟨m, rfl⟩ : ∃ m, dd = m + 1 := ⟨dd - 1, by omega⟩
    refine nm_r (nI_pred m) ?_
    refine br_t h3 (br_f (nI_ne0 (by omega) (by omega)) (nm_r (nI_pred m) ?_))
    refine ⟨rfl, qs_mk hB hA hFc hPe hRl ⟨rfl, Or.inr ⟨rp, rv, a1, a2, a3, a4, a5, a6, a7, a8, Or.inr (Or.inr ⟨h3, a9, b1, b2, b3, m, rfl, rfl, ⟨b6.1, fun d hd => b6.2 d (by omega)⟩, Or.inl ⟨rfl, rfl⟩⟩)⟩⟩⟩
  · have e : dd = 0 := by omega
    subst e
    exact br_t h3 (br_t rfl ⟨rfl, hm⟩)
theorem i_vc_learned {k : Nat} {u : SX} {v : SY} (I : i_Rel k u v) (hk : k + 4 ≤ 2051) (v1 : Int32) (v2 : Int32) : wpX_learned (fun r => wpY_learned (fun r' => r' = r ∧ i_Rel (k + 4) u v) v v1 v2) u v1 v2 := by
  refine qs_el (Q := fun u v => wpX_learned (fun r => wpY_learned (fun r' => r' = r ∧ i_Rel (k + 4) u v) v v1 v2) u v1 v2) I ?_
  intro P V C F al mu hsu sP sL sH st rP rV so bl de hlr lb rc fr ol rf dm ts lv aff afb anb aru atc atr ald alt gh gs gp gv gd gl yof yfa ype ybe ybl ypa yls ysp yus yva hB hA hFc hPe hRl hRs
  obtain ⟨hP2, hP, hV1, hV, hC, hF⟩ := id hB
  have hm : i_Rel (k + 4) (nI P, nI V, nI C, al, nI F, mu, hsu, sP, sL, sH, st, rP, rV, so, bl, de, hlr, lb, rc, fr, ol, rf, dm, ts, lv, aff, afb, anb, aru, atc, atr, ald, alt) (nI P, nI V, nI C, nI F, gh, gs, gp, gv, gd, gl, yof, yfa, ype, ybe, ybl, ypa, yls, ysp, yus, yva) := qs_mk hB hA hFc hPe hRl hRs
  have hgs := hRs.1
  subst hgs
  unfold wpX_learned wpY_learned
  dsimp only
  refine br_c (fun h3 => ?_) (fun h3 => br_f h3 ⟨rfl, hm⟩)
  obtain ⟨rp, rv, a1, a2, a3, a4, a5, a6, a7, a8, a9, b1, b2, b3, dd, b4, b5, b6, b7⟩ := qs_Rs3 hRs h3
  rcases b7 with ⟨c1, c2⟩ | ⟨c1, c2, c3, c4⟩
  · exact br_t c1 (br_t h3 (br_t c2 ⟨rfl, hm⟩))
  · refine br_f (by rw [c1]; decide) ?_
    have d2 : ¬ gl = 0 := by rw [c2]; decide
    rcases qs_pk hP v1 with hb | ⟨p, hp, rfl⟩
    · refine qs_pkg0 rfl hb (br_t rfl (br_t h3 (br_f d2 ?_)))
      exact qs_bp0 rfl hb (br_f (by decide) ⟨rfl, hm⟩)
    · refine qs_pkg1 hP rfl hp (br_f (by decide) ?_)
      rcases qs_vl hV v2 with hb | ⟨w, hw, rfl⟩
      · refine qs_vlu0 rfl hb (br_t rfl (br_t h3 (br_f d2 (qs_bp1 hP rfl hp (br_t rfl ?_)))))
        refine br_c (fun _ => ⟨rfl, hm⟩) (fun hn => ?_)
        rcases hb with hb | hb
        · exact absurd hb hn
        · exact br_f (Int32.not_le.mpr hb) ⟨rfl, hm⟩
      · refine qs_vlu1 hV rfl hw (br_f (by decide) (qs_ct (by omega) (br_t h3 (br_f d2 (qs_bp1 hP rfl hp (br_t rfl ?_))))))
        refine br_f (nI_pos (by omega)) (br_t (nI_le hw (by omega)) ⟨qs_i5 (by omega) (by omega), ?_⟩)
        rw [qs_i5c (by omega) (by omega), c4 p w hp (by omega)]
        refine br_c (fun hz => ⟨hz.symm, hm⟩) (fun hz => ⟨?_, hm⟩)
        cases e : bt lb (p * 5 + w)
        · exact absurd (qs_010.mpr e) hz
        · rfl
end
section
/-! ===== requires, excludes ===== -/
def qs_rs (lo hi : Nat) : Int32 := (((1 : Int32) <<< ((nI hi + 1) &&& 31)) - 1) &&& ((((1 : Int32) <<< (nI lo &&& 31)) - 1) ^^^ (-1))
def qs_tm (p : Nat) (s : Int32) : Int32 := (1073741823 &&& (((31 : Int32) <<< ((5 * nI p) &&& 31)) ^^^ (-1))) ||| (s <<< ((5 * nI p) &&& 31))
def qs_os (kd lo hi : Nat) : Int32 := if kd = 1 then 31 &&& (qs_rs lo hi ^^^ (-1)) else qs_rs lo hi
theorem qs_rsb : ∀ lo, lo < 5 → ∀ hi, hi < 5 → ∀ i, i < 32 → bt (qs_rs lo hi) i = decide (lo ≤ i ∧ i ≤ hi) := by decide +kernel
theorem qs_31c : ∀ i, i < 32 → bt 31 i = decide (i < 5) := by decide +kernel
theorem qs_30c : ∀ i, i < 32 → bt 1073741823 i = decide (i < 30) := by decide +kernel
theorem qs_osb {kd lo hi v : Nat} (hl : lo < 5) (hh : hi < 5) (hv : v < 32) : bt (qs_os kd lo hi) v = true ↔ v < 5 ∧ qs_ob kd lo hi v := by
  unfold qs_os qs_ob
  by_cases e : kd = 1
  · rw [if_pos e, qs_ant hv, qs_31c v hv, qs_rsb lo hl hi hh v hv]
    simp only [decide_eq_true_iff, decide_eq_false_iff_not]
    constructor
    · intro ⟨h1, h2⟩; exact ⟨h1, fun _ => h2, fun z => absurd e z⟩
    · intro ⟨h1, h2⟩; exact ⟨h1, h2.1 e⟩
  · rw [if_neg e, qs_rsb lo hl hi hh v hv]
    simp only [decide_eq_true_iff]
    constructor
    · intro h; exact ⟨by omega, fun z => absurd z e, fun _ => h⟩
    · intro h; exact h.2.2 e
theorem qs_tmb {p : Nat} {s : Int32} (hp : p < 6) (hs : ∀ i, i < 32 → bt s i = true → i < 5) {i : Nat} (hi : i < 32) : bt (qs_tm p s) i = true ↔ (i < 30 ∧ ¬ (p * 5 ≤ i ∧ i < p * 5 + 5)) ∨ (p * 5 ≤ i ∧ bt s (i - p * 5) = true) := by
  have e : (31 : Int32) <<< ((5 * nI p) &&& 31) = qs_g p := by rw [qs_5]; rfl
  unfold qs_tm
  rw [qs_ot, e, qs_ant hi, qs_30c i hi, qs_5, b_shl (p * 5) (by omega) s hi, qs_gb p hp i hi]
  simp only [decide_eq_true_iff, decide_eq_false_iff_not, Bool.and_eq_true]
theorem qs_boxb {P kd s sl sh o ol oh : Nat} (hP : P ≤ 6) (hs : s < P) (ho : o < P) (h1 : sl < 5) (h2 : sh < 5) (h3 : ol < 5) (h4 : oh < 5) : bt (qs_tm s (qs_rs sl sh) &&& qs_tm o (qs_os kd ol oh)) 31 = false ∧ ∀ q v, q < P → v < 5 → (bt (qs_tm s (qs_rs sl sh) &&& qs_tm o (qs_os kd ol oh)) (q * 5 + v) = true ↔ (q = s → sl ≤ v ∧ v ≤ sh) ∧ (q = o → qs_ob kd ol oh v)) := by
  have hr5 : ∀ i, i < 32 → bt (qs_rs sl sh) i = true → i < 5 := fun i hi h => by
    rw [qs_rsb sl h1 sh h2 i hi] at h
    have := of_decide_eq_true h
    omega
  have ho5 : ∀ i, i < 32 → bt (qs_os kd ol oh) i = true → i < 5 := fun i hi h => ((qs_osb h3 h4 hi).mp h).1
  constructor
  · refine qs_tf fun e => ?_
    rcases (qs_tmb (by omega) hr5 (by omega)).mp (qs_at.mp e).1 with h | h
    · omega
    · have := hr5 _ (by omega) h.2
      omega
  · intro q v hq hv
    rw [qs_at, qs_tmb (by omega) hr5 (by omega), qs_tmb (by omega) ho5 (by omega)]
    have hA : ((q * 5 + v < 30 ∧ ¬ (s * 5 ≤ q * 5 + v ∧ q * 5 + v < s * 5 + 5)) ∨ (s * 5 ≤ q * 5 + v ∧ bt (qs_rs sl sh) (q * 5 + v - s * 5) = true)) ↔ (q = s → sl ≤ v ∧ v ≤ sh) := by
      by_cases e : q = s
      · subst e
        rw [show q * 5 + v - q * 5 = v from by omega, qs_rsb sl h1 sh h2 v (by omega)]
        simp only [decide_eq_true_iff]
        constructor
        · intro h _
          rcases h with h | h
          · omega
          · exact h.2
        · intro h; exact Or.inr ⟨by omega, h trivial⟩
      · constructor
        · intro _ z; exact absurd z e
        · intro _; exact Or.inl (by omega)
    have hO : ((q * 5 + v < 30 ∧ ¬ (o * 5 ≤ q * 5 + v ∧ q * 5 + v < o * 5 + 5)) ∨ (o * 5 ≤ q * 5 + v ∧ bt (qs_os kd ol oh) (q * 5 + v - o * 5) = true)) ↔ (q = o → qs_ob kd ol oh v) := by
      by_cases e : q = o
      · subst e
        rw [show q * 5 + v - q * 5 = v from by omega, qs_osb h3 h4 (by omega)]
        constructor
        · intro h _
          rcases h with h | h
          · omega
          · exact h.2.2
        · intro h; exact Or.inr ⟨by omega, hv, h rfl⟩
      · constructor
        · intro _ z; exact absurd z e
        · intro _; exact Or.inl (by omega)
    rw [hA, hO]
def qs_a7 (a : Nat → Int32) (F : Nat) (x0 x1 x2 x3 x4 x5 x6 : Int32) : Nat → Int32 := upd (upd (upd (upd (upd (upd (upd a (F * 7 + 0) x0) (F * 7 + 1) x1) (F * 7 + 2) x2) (F * 7 + 3) x3) (F * 7 + 4) x4) (F * 7 + 5) x5) (F * 7 + 6) x6
def qs_a8 (a : Nat → Int32) (F : Nat) (x0 x1 x2 x3 x4 x5 x6 : Int32) : Nat → Int32 := upd (upd (upd (upd (upd (upd (upd (upd a (F * 8 + 0) x0) (F * 8 + 1) x1) (F * 8 + 2) x2) (F * 8 + 3) x3) (F * 8 + 4) x4) (F * 8 + 5) x5) (F * 8 + 6) x6) (F * 8 + 7) 0
theorem qs_a7o {a : Nat → Int32} {F : Nat} {x0 x1 x2 x3 x4 x5 x6 : Int32} {i : Nat} (h : i < F * 7) : qs_a7 a F x0 x1 x2 x3 x4 x5 x6 i = a i := by
  unfold qs_a7
  rw [pk_un (by omega), pk_un (by omega), pk_un (by omega), pk_un (by omega), pk_un (by omega), pk_un (by omega), pk_un (by omega)]
theorem qs_a8o {a : Nat → Int32} {F : Nat} {x0 x1 x2 x3 x4 x5 x6 : Int32} {i : Nat} (h : i < F * 8) : qs_a8 a F x0 x1 x2 x3 x4 x5 x6 i = a i := by
  unfold qs_a8
  rw [pk_un (by omega), pk_un (by omega), pk_un (by omega), pk_un (by omega), pk_un (by omega), pk_un (by omega), pk_un (by omega), pk_un (by omega)]
theorem qs_a78 {a b : Nat → Int32} {F : Nat} {x0 x1 x2 x3 x4 x5 x6 : Int32} : ∀ j, j < 7 → qs_a7 a F x0 x1 x2 x3 x4 x5 x6 (F * 7 + j) = qs_a8 b F x0 x1 x2 x3 x4 x5 x6 (F * 8 + j) := by
  intro j hj
  have : j = 0 ∨ j = 1 ∨ j = 2 ∨ j = 3 ∨ j = 4 ∨ j = 5 ∨ j = 6 := by omega
  rcases this with rfl | rfl | rfl | rfl | rfl | rfl | rfl <;> simp [qs_a7, qs_a8, upd]
theorem qs_Fc_add {P F kd s sl sh o ol oh : Nat} {mu : Int32} {aff afb yfa : Nat → Int32} (hP : P ≤ 6) (h : qs_Fc P F mu aff afb yfa) (hkd : kd = 1 ∨ kd = 2) (hs : s < P) (ho : o < P) (h1 : sl < 5) (h2 : sh < 5) (h3 : ol < 5) (h4 : oh < 5) :
    qs_Fc P (F + 1) mu (qs_a7 aff F (nI kd) (nI s) (nI sl) (nI sh) (nI o) (nI ol) (nI oh)) (upd afb F (qs_tm s (qs_rs sl sh) &&& qs_tm o (qs_os kd ol oh))) (qs_a8 yfa F (nI kd) (nI s) (nI sl) (nI sh) (nI o) (nI ol) (nI oh)) := by
  refine ⟨fun f hf => h.1 f (by omega), fun f hf => ?_⟩
  by_cases e : f = F
  · subst e
    refine ⟨⟨kd, s, sl, sh, o, ol, oh, ?_, hkd, hs, ho, h1, h2, h3, h4, ?_⟩, qs_a78, ?_⟩
    · simp [qs_a8, upd]
    · rw [pk_us]
      exact qs_boxb hP hs ho h1 h2 h3 h4
    · rw [h.1 f (Nat.le_refl _)]
      simp [qs_a8, upd, qs_01]
  · obtain ⟨g1, g2, g3⟩ := h.2 f (by omega)
    refine ⟨?_, fun j hj => ?_, ?_⟩
    · rw [pk_un e]
      exact qs_fact_c (fun i hi => qs_a8o (by omega)) g1
    · rw [qs_a7o (by omega), qs_a8o (by omega)]
      exact g2 j hj
    · rw [qs_a8o (by omega)]
      exact g3
theorem qs_Rl_add {P F : Nat} {rf rc fr : Int32} {afb aru : Nat → Int32} {b : Int32} (h : qs_Rl P F rf afb rc fr aru) : qs_Rl P (F + 1) rf (upd afb F b) rc fr aru := by
  obtain ⟨⟨c, f, e1, e2, h1, h2, h3, h4, h5⟩, hk⟩ := h
  refine ⟨⟨c, f, e1, e2, h1, h2, h3, fun i hi => ⟨(h4 i hi).1, fun a ha hin => ?_⟩, fun g hg hb => ?_⟩, fun g hg => hk g (by omega)⟩
  · obtain ⟨g, hg, hb, hi'⟩ := (h4 i hi).2 a ha hin
    exact ⟨g, by omega, hb, by rw [pk_un (by omega)]; exact hi'⟩
  · by_cases e : g = F
    · rw [e, hk F (Nat.le_refl _)] at hb; exact absurd hb (by decide)
    · obtain ⟨i, hi, ei⟩ := h5 g (by omega) hb
      exact ⟨i, hi, by rw [pk_un e]; exact ei⟩
section
variable {fP fV fC al fF mu hsu sP sL sH st rP rV so bl de hlr lb rc fr ol rf dm ts lv : Int32} {aff afb anb aru atc atr ald alt : Nat → Int32} {gP gV gC gF gh gs gp gv gd gl : Int32} {yof yfa ype ybe ybl ypa yls ysp yus yva : Nat → Int32} {P V C F kd s sl sh q l m : Nat}
theorem qs_addX {post : Int32 → SX → Prop} (hP : P ≤ 6) (hV : V ≤ 4) (hC : C ≤ 20) (hF : F < C) (hkd : kd = 1 ∨ kd = 2) (hq : q < P) (h1 : 1 ≤ l) (h2 : l ≤ m) (h3 : m ≤ V)
    (h : post (nI F) (nI P, nI V, nI C, al, nI (F + 1), mu, 1, nI s, nI sl, nI sh, 0, 0, 0, 0, 0, 0, 0, 0, rc, fr, ol, rf, dm, ts, lv, qs_a7 aff F (nI kd) (nI s) (nI sl) (nI sh) (nI q) (nI l) (nI m), upd afb F (qs_tm s (qs_rs sl sh) &&& qs_tm q (qs_os kd l m)), anb, aru, atc, atr, ald, alt)) :
    wpX_addFact post (nI P, nI V, nI C, al, nI F, mu, 1, nI s, nI sl, nI sh, st, rP, rV, so, bl, de, hlr, lb, rc, fr, ol, rf, dm, ts, lv, aff, afb, anb, aru, atc, atr, ald, alt) (nI kd) (nI q) (nI l) (nI m) := by
  have c7 : ∀ j, j < 7 → (nI (F * 7) + nI j).toNatClampNeg = F * 7 + j := fun j hj => by rw [nI_add, nI_clamp (by omega)]
  have i7 : ∀ j, j < 7 → vp_in (nI (F * 7) + nI j) 140 := fun j hj => by rw [nI_add]; exact vp_in_nI (by omega) (by omega)
  have key : ∀ aff' o', aff' = qs_a7 aff F (nI kd) (nI s) (nI sl) (nI sh) (nI q) (nI l) (nI m) → o' = qs_os kd l m → wX_addFact_171 post (nI q) (qs_rs sl sh) o' (nI P) (nI V) (nI C) al (nI F) mu 1 (nI s) (nI sl) (nI sh) st rP rV so bl de hlr lb rc fr ol rf dm ts lv aff' afb anb aru atc atr ald alt := by
    intro aff' o' e1 e2
    subst e1 e2
    unfold wX_addFact_171 wpX_term
    dsimp only
    refine ⟨pk_in F 20 (by omega), nm_r (e' := upd afb F (qs_tm s (qs_rs sl sh) &&& qs_tm q (qs_os kd l m))) (by rw [nI_clamp (by omega)]; rfl) (nm_r (nI_1 F) (qs_drop ?_))⟩
    dsimp only
    rw [nI_pred]
    exact h
  refine br_f (by decide) ?_
  refine qs_pkg1 hP rfl hq (br_f (by decide) (qs_rng1 hV rfl h1 h2 h3 (br_f (by decide) (br_t (nI_lt hF (by omega)) (nm_r (qs_m7 F) ?_)))))
  refine ⟨i7 0 (by omega), nm_e ⟨i7 1 (by omega), nm_e ⟨i7 2 (by omega), nm_e ⟨i7 3 (by omega), nm_e ⟨i7 4 (by omega), nm_e ⟨i7 5 (by omega), nm_e ⟨i7 6 (by omega), nm_r (e' := qs_a7 aff F (nI kd) (nI s) (nI sl) (nI sh) (nI q) (nI l) (nI m)) ?_ ?_⟩⟩⟩⟩⟩⟩⟩
  · have d0 : (nI (F * 7) + 0).toNatClampNeg = F * 7 + 0 := c7 0 (by omega)
    have d1 : (nI (F * 7) + 1).toNatClampNeg = F * 7 + 1 := c7 1 (by omega)
    have d2 : (nI (F * 7) + 2).toNatClampNeg = F * 7 + 2 := c7 2 (by omega)
    have d3 : (nI (F * 7) + 3).toNatClampNeg = F * 7 + 3 := c7 3 (by omega)
    have d4 : (nI (F * 7) + 4).toNatClampNeg = F * 7 + 4 := c7 4 (by omega)
    have d5 : (nI (F * 7) + 5).toNatClampNeg = F * 7 + 5 := c7 5 (by omega)
    have d6 : (nI (F * 7) + 6).toNatClampNeg = F * 7 + 6 := c7 6 (by omega)
    rw [d0, d1, d2, d3, d4, d5, d6]
    rfl
  · unfold wpX_rangeSet
    dsimp only
    rcases hkd with rfl | rfl
    · exact br_t rfl (nm_e (key _ _ rfl rfl))
    · exact br_f (by decide) (key _ _ rfl rfl)
theorem qs_addY {post : Int32 → SY → Prop} (hP : P ≤ 6) (hV : V ≤ 4) (hC : C ≤ 20) (hF : F < C) (hq : q < P) (h1 : 1 ≤ l) (h2 : l ≤ m) (h3 : m ≤ V) (e1 : ype 1 = nI s) (e2 : ype 2 = nI sl) (e3 : ype 3 = nI sh)
    (h : post (nI F) (nI P, nI V, nI C, nI (F + 1), 1, 0, gp, gv, 0, 0, yof, qs_a8 yfa F (nI kd) (nI s) (nI sl) (nI sh) (nI q) (nI l) (nI m), ype, ybe, ybl, ypa, yls, ysp, yus, yva)) :
    wpY_add post (nI P, nI V, nI C, nI F, 1, gs, gp, gv, gd, gl, yof, yfa, ype, ybe, ybl, ypa, yls, ysp, yus, yva) (nI kd) (nI q) (nI l) (nI m) := by
  have c8 : ∀ j, j < 8 → (nI (F * 8) + nI j).toNatClampNeg = F * 8 + j := fun j hj => by rw [nI_add, nI_clamp (by omega)]
  have i8 : ∀ j, j < 8 → vp_in (nI (F * 8) + nI j) 160 := fun j hj => by rw [nI_add]; exact vp_in_nI (by omega) (by omega)
  refine br_f (by decide) ?_
  refine qs_br1 hP hV rfl rfl hq h1 h2 h3 (br_t rfl (br_t (nI_lt hF (by omega)) (nm_r (qs_m8 F) ?_)))
  refine ⟨i8 0 (by omega), nm_e ⟨i8 1 (by omega), nm_e ⟨i8 2 (by omega), nm_e ⟨i8 3 (by omega), nm_e ⟨i8 4 (by omega), nm_e ⟨i8 5 (by omega), nm_e ⟨i8 6 (by omega), nm_e ⟨i8 7 (by omega), nm_r (e' := qs_a8 yfa F (nI kd) (nI s) (nI sl) (nI sh) (nI q) (nI l) (nI m)) ?_ (nm_r (nI_1 F) (qs_ydrop ?_))⟩⟩⟩⟩⟩⟩⟩⟩
  · have d0 : (nI (F * 8) + 0).toNatClampNeg = F * 8 + 0 := c8 0 (by omega)
    have d1 : (nI (F * 8) + 1).toNatClampNeg = F * 8 + 1 := c8 1 (by omega)
    have d2 : (nI (F * 8) + 2).toNatClampNeg = F * 8 + 2 := c8 2 (by omega)
    have d3 : (nI (F * 8) + 3).toNatClampNeg = F * 8 + 3 := c8 3 (by omega)
    have d4 : (nI (F * 8) + 4).toNatClampNeg = F * 8 + 4 := c8 4 (by omega)
    have d5 : (nI (F * 8) + 5).toNatClampNeg = F * 8 + 5 := c8 5 (by omega)
    have d6 : (nI (F * 8) + 6).toNatClampNeg = F * 8 + 6 := c8 6 (by omega)
    have d7 : (nI (F * 8) + 7).toNatClampNeg = F * 8 + 7 := c8 7 (by omega)
    rw [d0, d1, d2, d3, d4, d5, d6, d7, e1, e2, e3]
    rfl
  · dsimp only
    rw [nI_pred]
    exact h
end
theorem qs_add {k : Nat} {u : SX} {v : SY} (I : i_Rel k u v) (kd : Nat) (hkd : kd = 1 ∨ kd = 2) (v1 v2 v3 : Int32) {pX : Int32 → SX → Prop} {pY : Int32 → Int32 → SX → SY → Prop} (hX : ∀ r u', wpY_add (fun r' v' => pY r r' u' v') v (nI kd) v1 v2 v3 → pX r u') (hY : ∀ r u' v', i_Rel (k + 4) u' v' → pY r r u' v') : wpX_addFact pX u (nI kd) v1 v2 v3 := by
  revert hX
  refine qs_el (Q := fun u v => (∀ r u', wpY_add (fun r' v' => pY r r' u' v') v (nI kd) v1 v2 v3 → pX r u') → wpX_addFact pX u (nI kd) v1 v2 v3) I ?_
  intro P V C F al mu hsu sP sL sH st rP rV so bl de hlr lb rc fr ol rf dm ts lv aff afb anb aru atc atr ald alt gh gs gp gv gd gl yof yfa ype ybe ybl ypa yls ysp yus yva hB hA hFc hPe hRl hRs hX
  obtain ⟨hP2, hP, hV1, hV, hC, hF⟩ := id hB
  have hm : i_Rel (k + 4) (nI P, nI V, nI C, al, nI F, mu, hsu, sP, sL, sH, st, rP, rV, so, bl, de, hlr, lb, rc, fr, ol, rf, dm, ts, lv, aff, afb, anb, aru, atc, atr, ald, alt) (nI P, nI V, nI C, nI F, gh, gs, gp, gv, gd, gl, yof, yfa, ype, ybe, ybl, ypa, yls, ysp, yus, yva) := qs_mk hB hA hFc hPe hRl hRs
  rcases id hPe with ⟨e1, e2⟩ | ⟨e1, e2, s, sl, sh, hs, hs1, hs2, hs3, a1, a2, a3, a4, a5, a6⟩
  · exact br_t e1 (hX _ _ (br_t e2 (hY _ _ _ hm)))
  · subst e1 e2
    rcases qs_pk hP v1 with hb | ⟨q, hq, rfl⟩
    · refine br_f (by decide) (qs_pkg0 rfl hb (br_t rfl (hX _ _ (br_f (by decide) ?_))))
      exact qs_br0p rfl hb (br_f (by decide) (hY _ _ _ hm))
    · rcases qs_rg hV v2 v3 with hb | ⟨l, m, rfl, rfl, h1, h2, h3⟩
      · refine br_f (by decide) (qs_pkg1 hP rfl hq (br_f (by decide) (qs_rng0 rfl hb (br_t rfl (hX _ _ (br_f (by decide) ?_))))))
        exact qs_br0 hP rfl rfl hq hb (br_f (by decide) (hY _ _ _ hm))
      · by_cases hFC : F < C
        · subst a1 a2 a3
          refine qs_addX hP hV hC hFC hkd hq h1 h2 h3 (hX _ _ (qs_addY hP hV hC hFC hq h1 h2 h3 a4 a5 a6 (hY _ _ _ ?_)))
          exact qs_mk ⟨hP2, hP, hV1, hV, hC, hFC⟩ hA (qs_Fc_add hP hFc hkd hs hq (by omega) (by omega) (by omega) (by omega)) hPe (qs_Rl_add hRl) qs_Rs0
        · have hn : ¬ nI F < nI C := nI_nlt (by omega) (by omega)
          refine br_f (by decide) (qs_pkg1 hP rfl hq (br_f (by decide) (qs_rng1 hV rfl h1 h2 h3 (br_f (by decide) (br_f hn (hX _ _ (br_f (by decide) ?_)))))))
          exact qs_br1 hP hV rfl rfl hq h1 h2 h3 (br_t rfl (br_f hn (hY _ _ _ hm)))
theorem i_vc_requires {k : Nat} {u : SX} {v : SY} (I : i_Rel k u v) (hk : k + 4 ≤ 2051) (v1 : Int32) (v2 : Int32) (v3 : Int32) : wpX_requires (fun r u' => wpY_requires (fun r' v' => r' = r ∧ i_Rel (k + 4) u' v') v v1 v2 v3) u v1 v2 v3 := by
  obtain ⟨fP, fV, fC, al, fF, mu, hsu, sP, sL, sH, st, rP, rV, so, bl, de, hlr, lb, rc, fr, ol, rf, dm, ts, lv, aff, afb, anb, aru, atc, atr, ald, alt⟩ := u
  obtain ⟨gP, gV, gC, gF, gh, gs, gp, gv, gd, gl, yof, yfa, ype, ybe, ybl, ypa, yls, ysp, yus, yva⟩ := v
  unfold wpX_requires wpY_requires
  dsimp only
  exact qs_add I 1 (Or.inl rfl) v1 v2 v3 (pY := fun r r' u' v' => r' = r ∧ i_Rel (k + 4) u' v') (fun r u' h => h) (fun r u' v' h => ⟨rfl, h⟩)
theorem i_vc_excludes {k : Nat} {u : SX} {v : SY} (I : i_Rel k u v) (hk : k + 4 ≤ 2051) (v1 : Int32) (v2 : Int32) (v3 : Int32) : wpX_excludes (fun r u' => wpY_excludes (fun r' v' => r' = r ∧ i_Rel (k + 4) u' v') v v1 v2 v3) u v1 v2 v3 := by
  obtain ⟨fP, fV, fC, al, fF, mu, hsu, sP, sL, sH, st, rP, rV, so, bl, de, hlr, lb, rc, fr, ol, rf, dm, ts, lv, aff, afb, anb, aru, atc, atr, ald, alt⟩ := u
  obtain ⟨gP, gV, gC, gF, gh, gs, gp, gv, gd, gl, yof, yfa, ype, ybe, ybl, ypa, yls, ysp, yus, yva⟩ := v
  unfold wpX_excludes wpY_excludes
  dsimp only
  exact qs_add I 2 (Or.inr rfl) v1 v2 v3 (pY := fun r r' u' v' => r' = r ∧ i_Rel (k + 4) u' v') (fun r u' h => h) (fun r u' v' h => ⟨rfl, h⟩)
end
section
/-! ===== the constructors ===== -/
theorem qs_clamp (a b : Nat) (hab : a ≤ b) (hb : b < 2 ^ 31) (x : Int32) : ∃ n, a ≤ n ∧ n ≤ b ∧ ∀ A : Int32 → Prop, A (nI n) → ((nI a ≤ x → ((x ≤ nI b → A x) ∧ (¬ x ≤ nI b → A (nI b)))) ∧ (¬ nI a ≤ x → A (nI a))) := by
  by_cases h1 : nI a ≤ x
  · by_cases h2 : x ≤ nI b
    · have h0 : ¬ x < 0 := Int32.not_lt.mpr (Int32.le_trans (nI_pos' (by omega)) h1)
      obtain ⟨n, hn, rfl⟩ := nI_of h0
      exact ⟨n, (nI_leI (by omega) hn).mp h1, (nI_leI hn hb).mp h2, fun A h => br_t h1 (br_t h2 h)⟩
    · exact ⟨b, hab, Nat.le_refl _, fun A h => br_t h1 (br_f h2 h)⟩
  · exact ⟨a, Nat.le_refl _, hab, fun A h => br_f h1 h⟩
theorem qs_clX {a b n : Nat} {x : Int32} (h : ∀ A : Int32 → Prop, A (nI n) → ((nI a ≤ x → ((x ≤ nI b → A x) ∧ (¬ x ≤ nI b → A (nI b)))) ∧ (¬ nI a ≤ x → A (nI a)))) {post : Int32 → Prop} {u : SX} (hp : post (nI n)) : wpX_clamp post u x (nI a) (nI b) := by
  obtain ⟨fP, fV, fC, al, fF, mu, hsu, sP, sL, sH, st, rP, rV, so, bl, de, hlr, lb, rc, fr, ol, rf, dm, ts, lv, aff, afb, anb, aru, atc, atr, ald, alt⟩ := u
  exact h post hp
section
variable {fP fV fC al fF mu hsu sP sL sH st rP rV so bl de hlr lb rc fr ol rf dm ts lv : Int32} {aff afb anb aru atc atr ald alt : Nat → Int32} {P : Nat}
theorem qs_in107 {post : SX → Prop} (hP : P ≤ 6) (h : ∀ al, (∀ i, i < 32 → (bt al i = true ↔ ∃ p, p < P ∧ i = p * 5)) → post (nI P, fV, fC, al, fF, mu, hsu, sP, sL, sH, st, rP, rV, so, bl, de, hlr, lb, rc, fr, ol, rf, dm, ts, lv, aff, afb, anb, aru, atc, atr, ald, alt)) : ∀ n j al, P < n + j → j ≤ P → (∀ i, i < 32 → (bt al i = true ↔ ∃ p, p < j ∧ i = p * 5)) → wX_init_107 post (nI P) fV fC fF mu hsu sP sL sH st rP rV so bl de hlr lb rc fr ol rf dm ts lv aff afb anb aru atc atr ald alt n (nI j) al := by
  intro n
  induction n with
  | zero => intro j al h1 h2; omega
  | succ n ih =>
    intro j al h1 h2 hb
    refine pk_le P j (fun hle => ?_) (fun hlt => ?_)
    · have e : j = P := by omega
      subst e
      exact h al hb
    · refine nm_e (nm_r (nI_1 j) (ih (j + 1) _ (by omega) (by omega) (fun i hi => ?_)))
      rw [qs_ot, hb i hi, qs_5, qs_1b (j * 5) (by omega) i hi]
      constructor
      · intro z
        rcases z with ⟨p, hp, e⟩ | z
        · exact ⟨p, by omega, e⟩
        · exact ⟨j, by omega, of_decide_eq_true z⟩
      · intro ⟨p, hp, e⟩
        by_cases ep : p = j
        · subst ep; exact Or.inr (decide_eq_true e)
        · exact Or.inl ⟨p, by omega, e⟩
end
theorem i_vc0 (k0 : Int32) (k1 : Int32) (k2 : Int32) : wpX_init (fun u => wpY_init (fun v => i_Rel 3 u v) k0 k1 k2) k0 k1 k2 := by
  obtain ⟨P, hP2, hP, cP⟩ := qs_clamp 2 6 (by omega) (by omega) k0
  obtain ⟨V, hV1, hV, cV⟩ := qs_clamp 1 4 (by omega) (by omega) k1
  obtain ⟨C, hC4, hC, cC⟩ := qs_clamp 4 20 (by omega) (by omega) k2
  unfold wpX_init
  refine qs_clX cP (qs_clX cV (qs_clX cC ⟨P + 1, qs_in107 hP (fun al hal => ?_) (P + 1) 0 0 (by omega) (by omega) (fun i hi => ?_)⟩))
  · refine cP (fun x => wY_init_141 (fun v => i_Rel 3 _ v) k1 k2 x 0 0 0 0 0 0 0 0 0 0 (fun _ => 0) (fun _ => 0) (fun _ => 0) (fun _ => 0) (fun _ => 0) (fun _ => 0) (fun _ => 0) (fun _ => 0) (fun _ => 0) (fun _ => 0)) ?_
    refine cV (fun x => wY_init_164 (fun v => i_Rel 3 _ v) k2 x (nI P) 0 0 0 0 0 0 0 0 0 (fun _ => 0) (fun _ => 0) (fun _ => 0) (fun _ => 0) (fun _ => 0) (fun _ => 0) (fun _ => 0) (fun _ => 0) (fun _ => 0) (fun _ => 0)) ?_
    refine cC (fun x => i_Rel 3 _ (nI P, nI V, x, 0, 0, 0, 0, 0, 0, 0, (fun _ => 0), (fun _ => 0), (fun _ => 0), (fun _ => 0), (fun _ => 0), (fun _ => 0), (fun _ => 0), (fun _ => 0), (fun _ => 0), (fun _ => 0))) ?_
    refine qs_mk (F := 0) ⟨hP2, hP, hV1, hV, hC, Nat.zero_le _⟩ ⟨fun i hi hb => ?_, fun p hp => ?_, fun p w hp hw hw5 => ?_⟩ ⟨fun f _ => b_0 f, fun f hf => absurd hf (Nat.not_lt_zero f)⟩ (Or.inl ⟨rfl, rfl⟩) ⟨⟨0, 0, rfl, rfl, Nat.le_refl _, Nat.zero_le _, Nat.zero_le _, fun i hi => absurd hi (Nat.not_lt_zero i), fun f hf => absurd hf (Nat.not_lt_zero f)⟩, fun f _ => b_0 f⟩ ⟨rfl, Or.inl rfl⟩
    · obtain ⟨p, hp, e⟩ := (hal i hi).mp hb
      omega
    · exact (hal _ (by omega)).mpr ⟨p, hp, rfl⟩
    · rw [qs_01f]
      refine qs_tf fun z => ?_
      obtain ⟨p', hp', e⟩ := (hal _ (by omega)).mp z
      omega
  · rw [b_0]
    constructor
    · intro z; exact absurd z (by decide)
    · intro ⟨p, hp, _⟩; omega
end
section
/-! ===== boxes: withOnly, active; the reference's spaces ===== -/
theorem qs_wob {x : Int32} {p v q w : Nat} (hp : p < 6) (hv : v < 5) (hq : q < 6) (hw : w < 5) : bt (qs_wo x p v) (q * 5 + w) = true ↔ (q = p ∧ w = v) ∨ (q ≠ p ∧ bt x (q * 5 + w) = true) := by
  unfold qs_wo
  rw [qs_ot, qs_ant (by omega), qs_bb (by omega) (by omega), qs_gb p hp _ (by omega), decide_eq_true_iff, decide_eq_false_iff_not]
  constructor
  · intro h
    rcases h with ⟨h1, h2⟩ | h
    · exact Or.inr ⟨by omega, h1⟩
    · exact Or.inl (by omega)
  · intro h
    rcases h with ⟨h1, h2⟩ | ⟨h1, h2⟩
    · exact Or.inr (by omega)
    · exact Or.inl ⟨h2, by omega⟩
theorem qs_wo_reg {P V : Nat} {x : Int32} {p v : Nat} (hP : P ≤ 6) (hx : qs_reg P V x) (hp : p < P) (hv : v ≤ V) (hV : V ≤ 4) : qs_reg P V (qs_wo x p v) := by
  intro i hi hb
  rcases qs_ot.mp hb with h | h
  · exact hx i hi ((qs_ant hi).mp h).1
  · rw [qs_bb (by omega) hi] at h
    have := of_decide_eq_true h
    omega
theorem qs_wo_ne {P : Nat} {x : Int32} {p v : Nat} (hP : P ≤ 6) (hx : qs_ne P x) (hp : p < P) (hv : v < 5) : qs_ne P (qs_wo x p v) := by
  intro q hq
  by_cases e : q = p
  · exact ⟨v, hv, (qs_wob (by omega) hv (by omega) hv).mpr (Or.inl ⟨e, rfl⟩)⟩
  · obtain ⟨w, hw, hb⟩ := hx q hq
    exact ⟨w, hw, (qs_wob (by omega) hv (by omega) hw).mpr (Or.inr ⟨e, hb⟩)⟩
theorem qs_A_ne {P V : Nat} {al : Int32} {yof : Nat → Int32} (hA : qs_A P V al yof) : qs_ne P al := fun p hp => ⟨0, by omega, hA.2.1 p hp⟩
theorem qs_low : ∀ F, F ≤ 20 → ∀ i, i < 32 → bt (((1 : Int32) <<< (nI F &&& 31)) - 1) i = decide (i < F) := by
  have h : ∀ F, F < 21 → ∀ i, i < 32 → bt (((1 : Int32) <<< (nI F &&& 31)) - 1) i = decide (i < F) := by decide +kernel
  exact fun F hF => h F (by omega)
theorem qs_actb {F : Nat} {mu : Int32} (hF : F ≤ 20) {f : Nat} (hf : f < F) : bt (qs_act F mu) f = !bt mu f := by
  unfold qs_act
  rw [b_and, qs_low F hF f (by omega), qs_nt mu (by omega), decide_eq_true hf, Bool.true_and]
theorem qs_actk {F : Nat} {mu : Int32} (hF : F ≤ 20) : qs_kb F (qs_act F mu) := by
  intro f hf
  by_cases h : f < 32
  · unfold qs_act
    rw [b_and, qs_low F hF f h, decide_eq_false (by omega), Bool.false_and]
  · exact b_big (by omega)
theorem qs_nar01 (b : Bool) : vp_nar .boolean (qs_01 b) = qs_01 b := by cases b <;> rfl
section
variable {fP fV fC al fF mu hsu sP sL sH st rP rV so bl de hlr lb rc fr ol rf dm ts lv : Int32} {aff afb anb aru atc atr ald alt : Nat → Int32} {gP gV gC gF gh gs gp gv gd gl : Int32} {yof yfa ype ybe ybl ypa yls ysp yus yva : Nat → Int32} {P V F : Nat}
theorem qs_woX {post : Int32 → Prop} {u : SX} {x : Int32} {p v : Nat} (h : post (qs_wo x p v)) : wpX_withOnly post u x (nI p) (nI v) := by
  obtain ⟨fP, fV, fC, al, fF, mu, hsu, sP, sL, sH, st, rP, rV, so, bl, de, hlr, lb, rc, fr, ol, rf, dm, ts, lv, aff, afb, anb, aru, atc, atr, ald, alt⟩ := u
  have e : (x &&& (((31 : Int32) <<< ((5 * nI p) &&& 31)) ^^^ (-1))) ||| ((1 : Int32) <<< (((5 * nI p) + nI v) &&& 31)) = qs_wo x p v := by
    rw [qs_5, nI_add]; rfl
  show post ((x &&& (((31 : Int32) <<< ((5 * nI p) &&& 31)) ^^^ (-1))) ||| ((1 : Int32) <<< (((5 * nI p) + nI v) &&& 31)))
  rw [e]
  exact h
theorem qs_topX {post : Int32 → Prop} {p v : Nat} (h : post (qs_wo al p v)) : wpX_topBox post (fP, fV, fC, al, fF, mu, hsu, sP, sL, sH, st, nI p, nI v, so, bl, de, hlr, lb, rc, fr, ol, rf, dm, ts, lv, aff, afb, anb, aru, atc, atr, ald, alt) := by
  unfold wpX_topBox
  dsimp only
  exact qs_woX h
theorem qs_actX {post : Int32 → Prop} (h : post (qs_act F mu)) : wpX_activeFacts post (fP, fV, fC, al, nI F, mu, hsu, sP, sL, sH, st, rP, rV, so, bl, de, hlr, lb, rc, fr, ol, rf, dm, ts, lv, aff, afb, anb, aru, atc, atr, ald, alt) := h
theorem qs_yal {post : Int32 → Prop} {p w : Nat} (hP : P ≤ 6) (hA : qs_A P V al yof) (hp : p < P) (hw : w < 5) (h : post (qs_01 (bt al (p * 5 + w)))) : wpY_allowed post (gP, gV, gC, gF, gh, gs, gp, gv, gd, gl, yof, yfa, ype, ybe, ybl, ypa, yls, ysp, yus, yva) (nI p) (nI w) := by
  refine pk_eq w 0 (fun e => ?_) (fun e => ?_)
  · subst e
    have hb : bt al (p * 5 + 0) = true := hA.2.1 p hp
    rw [hb] at h
    exact h
  · refine ⟨qs_i5 (by omega) hw, ?_⟩
    rw [qs_i5c (by omega) hw, hA.2.2 p w hp (by omega) hw]
    cases e : bt al (p * 5 + w)
    · rw [e] at h; exact br_t rfl h
    · rw [e] at h; exact br_f (by decide) h
theorem qs_yt12 {post : SY → Prop} {J : Int32 → (Nat → Int32) → (Nat → Int32) → (Nat → Int32) → (Nat → Int32) → (Nat → Int32) → (Nat → Int32) → (Nat → Int32) → (Nat → Int32) → (Nat → Int32) → (Nat → Int32) → Prop} {p rp rv : Nat} (hP : P ≤ 6) (hA : qs_A P V al yof) (hp : p < P) (hrp : rp < P) (hrv : rv < 5)
    (hJ : ∀ ysp, (∀ i, i < (p + 1) * 5 → ysp i = qs_01 (bt (qs_wo al rp rv) i)) → J (nI (p + 1)) yof yfa ype ybe ybl ypa yls ysp yus yva) :
    ∀ n w ysp, 5 < n + w → w ≤ 5 → (∀ i, i < p * 5 + w → ysp i = qs_01 (bt (qs_wo al rp rv) i)) → wY_topSpace_12 post J (nI p) (nI P) gV gC gF gh gs (nI rp) (nI rv) gd gl n (nI w) yof yfa ype ybe ybl ypa yls ysp yus yva := by
  intro n
  induction n with
  | zero => intro w ysp h1 h2; omega
  | succ n ih =>
    intro w ysp h1 h2 hs
    refine pk_lt 4 w (fun hlt => ?_) (fun hle => ?_)
    · refine nm_r (nI_1 p) (hJ ysp fun i hi => hs i (by omega))
    · have step : ∀ b : Bool, b = bt (qs_wo al rp rv) (p * 5 + w) → wY_topSpace_12 post J (nI p) (nI P) gV gC gF gh gs (nI rp) (nI rv) gd gl n (nI (w + 1)) yof yfa ype ybe ybl ypa yls (upd ysp (p * 5 + w) (qs_01 b)) yus yva := by
        intro b hb
        refine ih (w + 1) _ (by omega) (by omega) (fun i hi => ?_)
        by_cases e : i = p * 5 + w
        · rw [e, pk_us, hb]
        · rw [pk_un e]; exact hs i (by omega)
      have i5 : vp_in (nI p * 5 + nI w) 30 := qs_i5 (by omega) (by omega)
      have c5 : (nI p * 5 + nI w).toNatClampNeg = p * 5 + w := qs_i5c (by omega) (by omega)
      refine pk_eq p rp (fun e => ?_) (fun e => ?_)
      · refine pk_eq w rv (fun e2 => ?_) (fun e2 => ?_)
        · refine ⟨i5, nm_r (e' := upd ysp (p * 5 + w) (qs_01 true)) (by rw [c5]; rfl) (nm_r (nI_1 w) (step true ?_))⟩
          exact ((qs_wob (by omega) hrv (by omega) (by omega)).mpr (Or.inl ⟨e, e2⟩)).symm
        · refine ⟨i5, nm_r (e' := upd ysp (p * 5 + w) (qs_01 false)) (by rw [c5]; rfl) (nm_r (nI_1 w) (step false ?_))⟩
          symm
          refine qs_tf fun z => ?_
          rcases (qs_wob (by omega) hrv (by omega) (by omega)).mp z with z | z
          · exact e2 z.2
          · exact z.1 e
      · refine qs_yal hP hA hp (by omega) ?_
        refine ⟨i5, nm_r (e' := upd ysp (p * 5 + w) (qs_01 (bt al (p * 5 + w)))) (by rw [c5, qs_nar01]) (nm_r (nI_1 w) (step _ ?_))⟩
        cases eb : bt al (p * 5 + w)
        · symm
          refine qs_tf fun z => ?_
          rcases (qs_wob (by omega) hrv (by omega) (by omega)).mp z with z | z
          · exact e z.1
          · rw [eb] at z; exact absurd z.2 (by decide)
        · exact ((qs_wob (by omega) hrv (by omega) (by omega)).mpr (Or.inr ⟨e, eb⟩)).symm
theorem qs_yt2 {post : SY → Prop} {rp rv : Nat} (hP : P ≤ 6) (hA : qs_A P V al yof) (hrp : rp < P) (hrv : rv < 5)
    (h : ∀ ysp, (∀ i, i < P * 5 → ysp i = qs_01 (bt (qs_wo al rp rv) i)) → post (nI P, gV, gC, gF, gh, gs, nI rp, nI rv, gd, gl, yof, yfa, ype, ybe, ybl, ypa, yls, ysp, yus, yva)) :
    ∀ n p ysp, P < n + p → p ≤ P → (∀ i, i < p * 5 → ysp i = qs_01 (bt (qs_wo al rp rv) i)) → wY_topSpace_2 post (nI P) gV gC gF gh gs (nI rp) (nI rv) gd gl n (nI p) yof yfa ype ybe ybl ypa yls ysp yus yva := by
  intro n
  induction n with
  | zero => intro p ysp h1 h2; omega
  | succ n ih =>
    intro p ysp h1 h2 hs
    refine pk_le P p (fun hle => ?_) (fun hlt => ?_)
    · exact h ysp fun i hi => hs i (by omega)
    · exact ⟨6, qs_yt12 hP hA hlt hrp hrv (fun ysp hs' => ih (p + 1) ysp (by omega) (by omega) hs') 6 0 ysp (by omega) (by omega) hs⟩
theorem qs_ytop {post : SY → Prop} {rp rv : Nat} (hP : P ≤ 6) (hA : qs_A P V al yof) (hrp : rp < P) (hrv : rv < 5)
    (h : ∀ ysp, qs_sp P ysp (qs_wo al rp rv) → post (nI P, gV, gC, gF, gh, gs, nI rp, nI rv, gd, gl, yof, yfa, ype, ybe, ybl, ypa, yls, ysp, yus, yva)) : wpY_topSpace post (nI P, gV, gC, gF, gh, gs, nI rp, nI rv, gd, gl, yof, yfa, ype, ybe, ybl, ypa, yls, ysp, yus, yva) :=
  ⟨P + 1, qs_yt2 hP hA hrp hrv (fun ysp hs => h ysp fun p w hp hw => hs _ (by omega)) (P + 1) 0 ysp (by omega) (by omega) (fun i hi => by omega)⟩
theorem qs_yun {post : SY → Prop} (hF : F ≤ 20) (hFc : qs_Fc P F mu aff afb yfa)
    (h : ∀ yus, (∀ f, f < F → yus f = qs_01 (bt (qs_act F mu) f)) → post (gP, gV, gC, nI F, gh, gs, gp, gv, gd, gl, yof, yfa, ype, ybe, ybl, ypa, yls, ysp, yus, yva)) :
    ∀ n f yus, F < n + f → f ≤ F → (∀ g, g < f → yus g = qs_01 (bt (qs_act F mu) g)) → wY_useUnmuted_2 post gP gV gC (nI F) gh gs gp gv gd gl n (nI f) yof yfa ype ybe ybl ypa yls ysp yus yva := by
  intro n
  induction n with
  | zero => intro f yus h1 h2; omega
  | succ n ih =>
    intro f yus h1 h2 hs
    refine pk_le F f (fun hle => ?_) (fun hlt => ?_)
    · exact h yus fun g hg => hs g (by omega)
    · have i7 : vp_in (nI f * 8 + 7) 160 := qs_i8 (j := 7) (by omega) (by omega)
      have c7 : (nI f * 8 + 7).toNatClampNeg = f * 8 + 7 := qs_i8c (j := 7) (by omega) (by omega)
      have cf : (nI f).toNatClampNeg = f := nI_clamp (by omega)
      have step : ∀ b : Bool, b = bt (qs_act F mu) f → wY_useUnmuted_2 post gP gV gC (nI F) gh gs gp gv gd gl n (nI (f + 1)) yof yfa ype ybe ybl ypa yls ysp (upd yus f (qs_01 b)) yva := by
        intro b hb
        refine ih (f + 1) _ (by omega) (by omega) (fun i hi => ?_)
        by_cases e : i = f
        · rw [e, pk_us, hb]
        · rw [pk_un e]; exact hs i (by omega)
      have ha := qs_actb (mu := mu) hF hlt
      refine ⟨i7, ?_⟩
      rw [c7, (hFc.2 f hlt).2.2]
      refine br_c (fun hz => ?_) (fun hz => ?_)
      · refine ⟨pk_in f 20 (by omega), nm_r (e' := upd yus f (qs_01 true)) (by rw [cf]; rfl) (nm_r (nI_1 f) (step true ?_))⟩
        rw [ha, qs_010.mp hz]; rfl
      · refine ⟨pk_in f 20 (by omega), nm_r (e' := upd yus f (qs_01 false)) (by rw [cf]; rfl) (nm_r (nI_1 f) (step false ?_))⟩
        rw [ha]
        cases e : bt mu f
        · exact absurd (qs_010.mpr e) hz
        · rfl
theorem qs_yuse {post : SY → Prop} (hF : F ≤ 20) (hFc : qs_Fc P F mu aff afb yfa)
    (h : ∀ yus, (∀ f, f < F → yus f = qs_01 (bt (qs_act F mu) f)) → post (gP, gV, gC, nI F, gh, gs, gp, gv, gd, gl, yof, yfa, ype, ybe, ybl, ypa, yls, ysp, yus, yva)) : wpY_useUnmuted post (gP, gV, gC, nI F, gh, gs, gp, gv, gd, gl, yof, yfa, ype, ybe, ybl, ypa, yls, ysp, yus, yva) :=
  ⟨F + 1, qs_yun hF hFc h (F + 1) 0 yus (by omega) (by omega) (fun i hi => by omega)⟩
end
end
section
/-! ===== solve, possible ===== -/
theorem qs_Fc_31 {P F : Nat} {mu : Int32} {aff afb yfa : Nat → Int32} (h : qs_Fc P F mu aff afb yfa) : ∀ f, f < F → bt (afb f) 31 = false := by
  intro f hf
  obtain ⟨⟨kd, s, sl, sh, o, ol, oh, _, _, _, _, _, _, _, _, hb, _⟩, _⟩ := h.2 f hf
  exact hb
theorem qs_Fc_f {P F : Nat} {mu : Int32} {aff afb yfa : Nat → Int32} (h : qs_Fc P F mu aff afb yfa) : ∀ f, f < F → qs_fact P (afb f) yfa f := fun f hf => (h.2 f hf).1
section
variable {fP fV fC al fF mu hsu sP sL sH st rP rV so bl de hlr lb rc fr ol rf dm ts lv : Int32} {aff afb anb aru atc atr ald alt : Nat → Int32} {gP gV gC gF gh gs gp gv gd gl : Int32} {yof yfa ype ybe ybl ypa yls ysp yus yva : Nat → Int32} {P V C F : Nat}
theorem qs_y69 {post : Int32 → SY → Prop} (hP : P ≤ 6) (h : ∀ ybe, (∀ p, p < P → ybe p = yva p) → post gs (nI P, gV, gC, gF, gh, gs, gp, gv, gd, gl, yof, yfa, ype, ybe, ybl, ypa, yls, ysp, yus, yva)) : ∀ n i ybe, P < n + i → i ≤ P → (∀ p, p < i → ybe p = yva p) → wY_solve_69 post (nI P) gV gC gF gh gs gp gv gd gl n (nI i) yof yfa ype ybe ybl ypa yls ysp yus yva := by
  intro n
  induction n with
  | zero => intro i ybe h1 h2; omega
  | succ n ih =>
    intro i ybe h1 h2 hs
    refine pk_le P i (fun hle => ?_) (fun hlt => ?_)
    · exact h ybe fun p hp => hs p (by omega)
    · have ci : (nI i).toNatClampNeg = i := nI_clamp (by omega)
      refine ⟨pk_in i 6 (by omega), pk_in i 6 (by omega), nm_r (e' := upd ybe i (yva i)) (by rw [ci]) (nm_r (nI_1 i) (ih (i + 1) _ (by omega) (by omega) (fun p hp => ?_)))⟩
      by_cases e : p = i
      · rw [e, pk_us]
      · rw [pk_un e]; exact hs p (by omega)
end
theorem i_vc_solve {k : Nat} {u : SX} {v : SY} (I : i_Rel k u v) (hk : k + 4 ≤ 2051) (v1 : Int32) (v2 : Int32) : wpX_solve (fun r u' => wpY_solve (fun r' v' => r' = r ∧ i_Rel (k + 4) u' v') v v1 v2) u v1 v2 := by
  refine qs_el (Q := fun u v => wpX_solve (fun r u' => wpY_solve (fun r' v' => r' = r ∧ i_Rel (k + 4) u' v') v v1 v2) u v1 v2) I ?_
  intro P V C F al mu hsu sP sL sH st rP rV so bl de hlr lb rc fr ol rf dm ts lv aff afb anb aru atc atr ald alt gh gs gp gv gd gl yof yfa ype ybe ybl ypa yls ysp yus yva hB hA hFc hPe hRl hRs
  obtain ⟨hP2, hP, hV1, hV, hC, hF⟩ := id hB
  unfold wpX_solve wpY_solve
  dsimp only
  rcases qs_pk hP v1 with hb | ⟨p, hp, rfl⟩
  · refine qs_pkg0 rfl hb (br_t rfl ?_)
    refine qs_br0p rfl hb (br_f (by decide) ?_)
    exact ⟨rfl, qs_mk hB hA hFc hPe hRl hRs⟩
  · refine qs_pkg1 hP rfl hp (br_f (by decide) ?_)
    rcases qs_vr hV v2 with hb | ⟨w, rfl, h1, h2⟩
    · refine qs_ver0 rfl hb (br_t rfl ?_)
      refine qs_br0 hP rfl rfl hp hb (br_f (by decide) ?_)
      exact ⟨rfl, qs_mk hB hA hFc hPe hRl hRs⟩
    · refine qs_ver1 hV rfl h1 h2 (br_f (by decide) ?_)
      have hi5 : vp_in (nI p * 5 + nI w) 30 := qs_i5 (by omega) (by omega)
      have ci5 : (nI p * 5 + nI w).toNatClampNeg = p * 5 + w := qs_i5c (by omega) (by omega)
      have hyo := hA.2.2 p w hp h1 (by omega)
      refine qs_ct (by omega) (br_c (fun hz => ?_) (fun hz => ?_))
      · refine qs_br1 hP hV rfl rfl hp h1 (Nat.le_refl _) h2 (br_t rfl ⟨hi5, ?_⟩)
        rw [ci5, hyo]
        exact br_t hz ⟨rfl, qs_mk hB hA hFc hPe hRl hRs⟩
      · have hbt : bt al (p * 5 + w) = true := by
          cases e : bt al (p * 5 + w)
          · exact absurd (qs_010.mpr e) hz
          · rfl
        have hreg : qs_reg P V (qs_wo al p w) := qs_wo_reg hP hA.1 hp h2 hV
        have hne : qs_ne P (qs_wo al p w) := qs_wo_ne hP (qs_A_ne hA) hp (by omega)
        refine qs_drop (qs_topX (qs_actX ?_))
        refine qs_search hP2 hP hV (by omega) hreg hne (qs_Fc_31 hFc) hRl.1 (fun rc fr ol aru dm ts lv atc atr ald alt g1 g2 g3 g4 g5 => ?_) (fun rc fr ol aru dm ts lv atc atr ald alt g1 g2 => ?_)
        · refine br_f (by decide) ?_
          refine qs_br1 hP hV rfl rfl hp h1 (Nat.le_refl _) h2 (br_t rfl ⟨hi5, ?_⟩)
          rw [ci5, hyo]
          refine br_f hz (qs_ydrop (qs_ytop hP hA hp (by omega) (fun ysp hsp => qs_yuse (by omega) hFc (fun yus hus => ?_))))
          refine qs_find hP (by omega) hsp hus (qs_Fc_f hFc) (fun yva b hb hyv => br_f (by decide) ?_) (fun yva hno => absurd ⟨_, g2.1⟩ hno)
          refine ⟨P + 1, qs_y69 hP (fun ybe hbe => ⟨rfl, ?_⟩) (P + 1) 0 ybe (by omega) (by omega) (fun p hp => by omega)⟩
          refine qs_mk hB hA hFc hPe ⟨g1, qs_actk (by omega)⟩ ⟨rfl, Or.inr ⟨p, w, hp, h1, h2, rfl, rfl, rfl, rfl, hbt, Or.inl ⟨rfl, qs_val dm, g2, fun q hq => qs_val_b (g3 q hq), g4, qs_reg_m g5 hreg, fun q hq => (hbe q hq).trans ((hyv q hq).trans (congrArg nI (qs_best_u hb g2 q hq)))⟩⟩⟩
        · refine br_t rfl ?_
          refine qs_br1 hP hV rfl rfl hp h1 (Nat.le_refl _) h2 (br_t rfl ⟨hi5, ?_⟩)
          rw [ci5, hyo]
          refine br_f hz (qs_ydrop (qs_ytop hP hA hp (by omega) (fun ysp hsp => qs_yuse (by omega) hFc (fun yus hus => ?_))))
          refine qs_find hP (by omega) hsp hus (qs_Fc_f hFc) (fun yva b hb hyv => absurd ⟨_, hb.1⟩ g2) (fun yva hno => br_t rfl ⟨rfl, ?_⟩)
          exact qs_mk hB hA hFc hPe ⟨g1, qs_actk (by omega)⟩ ⟨rfl, Or.inr ⟨p, w, hp, h1, h2, rfl, rfl, rfl, rfl, hbt, Or.inr (Or.inl ⟨rfl, hno⟩)⟩⟩
/-! possible -/
def qs_po (x : Int32) (p v : Nat) : Int32 := x &&& ((qs_g p ^^^ (-1)) ||| qs_b p v)
theorem qs_pob {x : Int32} {p v q w : Nat} (hp : p < 6) (hv : v < 5) (hq : q < 6) (hw : w < 5) : bt (qs_po x p v) (q * 5 + w) = true ↔ bt x (q * 5 + w) = true ∧ (q = p → w = v) := by
  unfold qs_po
  rw [qs_at, qs_ot, qs_nt _ (by omega), qs_bb (by omega) (by omega), qs_gb p hp _ (by omega), decide_eq_true_iff]
  by_cases e : q = p
  · rw [decide_eq_true (by omega)]
    constructor
    · intro ⟨h1, h2⟩
      rcases h2 with h2 | h2
      · exact absurd h2 (by decide)
      · exact ⟨h1, fun _ => by omega⟩
    · intro ⟨h1, h2⟩
      exact ⟨h1, Or.inr (by have := h2 e; omega)⟩
  · rw [decide_eq_false (by omega)]
    constructor
    · intro ⟨h1, _⟩; exact ⟨h1, fun z => absurd z e⟩
    · intro ⟨h1, _⟩; exact ⟨h1, Or.inl rfl⟩
theorem qs_po_sub {x : Int32} {p v : Nat} : qs_sub (qs_po x p v) x := fun i hi h => (qs_at.mp h).1
theorem qs_sol_m {P F : Nat} {k : Int32} {fb : Nat → Int32} {D D' : Int32} {a : Nat → Nat} (h : qs_sub D D') (hs : qs_sol P F k fb D a) : qs_sol P F k fb D' a := ⟨hs.1, qs_in_m h hs.2.1, hs.2.2⟩
/-- solutions of a box only ask the packages' own bits -/
theorem qs_sol_b {P F : Nat} {k : Int32} {fb : Nat → Int32} {D D' : Int32} {a : Nat → Nat} (h : ∀ q w, q < P → w < 5 → bt D (q * 5 + w) = true → bt D' (q * 5 + w) = true) (hs : qs_sol P F k fb D a) : qs_sol P F k fb D' a := ⟨hs.1, fun p hp => h p _ hp (hs.1 p hp) (hs.2.1 p hp), hs.2.2⟩
section
variable {gP gV gC gF gh gs gp gv gd gl : Int32} {yof yfa ype ybe ybl ypa yls ysp yus yva : Nat → Int32} {P F : Nat}
theorem qs_y42 {post : Int32 → SY → Prop} {x : Int32} {p v : Nat} (hP : P ≤ 6) (hp : p < P) (hv : v < 5)
    (h : ∀ ysp, qs_sp P ysp (qs_po x p v) → wpY_find (fun r u => (r = 0 → post 0 u) ∧ (¬ r = 0 → post 1 u)) (nI P, gV, gC, gF, gh, gs, gp, gv, gd, gl, yof, yfa, ype, ybe, ybl, ypa, yls, ysp, yus, yva)) :
    ∀ n w ysp, 5 < n + w → w ≤ 5 → (∀ q z, q < P → z < 5 → ((q = p ∧ z < w → ysp (q * 5 + z) = qs_01 (bt (qs_po x p v) (q * 5 + z))) ∧ (¬ (q = p ∧ z < w) → ysp (q * 5 + z) = qs_01 (bt x (q * 5 + z))))) → wY_possible_42 post (nI p) (nI v) (nI P) gV gC gF gh gs gp gv gd gl n (nI w) yof yfa ype ybe ybl ypa yls ysp yus yva := by
  intro n
  induction n with
  | zero => intro w ysp h1 h2; omega
  | succ n ih =>
    intro w ysp h1 h2 hs
    refine pk_lt 4 w (fun hlt => ?_) (fun hle => ?_)
    · refine h ysp fun q z hq hz => ?_
      by_cases e : q = p
      · exact (hs q z hq hz).1 ⟨e, by omega⟩
      · rw [(hs q z hq hz).2 (fun c => e c.1)]
        congr 1
        cases eb : bt x (q * 5 + z)
        · symm
          refine qs_tf fun c => ?_
          have := ((qs_pob (by omega) hv (by omega) hz).mp c).1
          rw [eb] at this; exact absurd this (by decide)
        · exact ((qs_pob (by omega) hv (by omega) hz).mpr ⟨eb, fun c => absurd c e⟩).symm
    · have i5 : vp_in (nI p * 5 + nI w) 30 := qs_i5 (by omega) (by omega)
      have c5 : (nI p * 5 + nI w).toNatClampNeg = p * 5 + w := qs_i5c (by omega) (by omega)
      have step : ∀ b : Bool, b = bt (qs_po x p v) (p * 5 + w) → wY_possible_42 post (nI p) (nI v) (nI P) gV gC gF gh gs gp gv gd gl n (nI (w + 1)) yof yfa ype ybe ybl ypa yls (upd ysp (p * 5 + w) (qs_01 b)) yus yva := by
        intro b hb
        refine ih (w + 1) _ (by omega) (by omega) (fun q z hq hz => ⟨fun c => ?_, fun c => ?_⟩)
        · by_cases e : z = w
          · rw [c.1, e, pk_us, hb]
          · rw [pk_un (by omega)]; exact (hs q z hq hz).1 ⟨c.1, by omega⟩
        · rw [pk_un (by omega)]; exact (hs q z hq hz).2 (by omega)
      have hx := (hs p w hp (by omega)).2 (by omega)
      refine ⟨i5, ?_⟩
      rw [c5, hx]
      refine br_c (fun hz => ?_) (fun hz => ?_)
      · refine ⟨i5, nm_r (e' := upd ysp (p * 5 + w) (qs_01 false)) rfl (nm_r (nI_1 w) (step false ?_))⟩
        symm
        refine qs_tf fun c => ?_
        have := ((qs_pob (by omega) hv (by omega) (by omega)).mp c).1
        rw [qs_010.mp hz] at this; exact absurd this (by decide)
      · have hb : bt x (p * 5 + w) = true := by
          cases e : bt x (p * 5 + w)
          · exact absurd (qs_010.mpr e) hz
          · rfl
        refine pk_eq w v (fun e => ?_) (fun e => ?_)
        · refine ⟨i5, nm_r (e' := upd ysp (p * 5 + w) (qs_01 true)) rfl (nm_r (nI_1 w) (step true ?_))⟩
          exact ((qs_pob (by omega) hv (by omega) (by omega)).mpr ⟨hb, fun _ => e⟩).symm
        · refine ⟨i5, nm_r (e' := upd ysp (p * 5 + w) (qs_01 false)) rfl (nm_r (nI_1 w) (step false ?_))⟩
          symm
          refine qs_tf fun c => ?_
          exact e (((qs_pob (by omega) hv (by omega) (by omega)).mp c).2 rfl)
end
section
variable {fP fV fC al fF mu hsu sP sL sH st rP rV so bl de hlr lb rc fr ol rf dm ts lv : Int32} {aff afb anb aru atc atr ald alt : Nat → Int32} {gP gV gC gF gh gs gp gv gd gl : Int32} {yof yfa ype ybe ybl ypa yls ysp yus yva : Nat → Int32} {P V C F : Nat}
/-- the reference's possible at a known root: the answer is whether a solution with that value is there -/
theorem qs_ypos {post : Int32 → SY → Prop} {rp rv p w : Nat} (hB : qs_B P V C F) (hA : qs_A P V al yof) (hFc : qs_Fc P F mu aff afb yfa) (hrp : rp < P) (hrv : rv ≤ V) (hp : p < P) (hw : w ≤ V) (hgs : ¬ gs = 0)
    (h1 : (∃ a, qs_sol P F (qs_act F mu) afb (qs_po (qs_wo al rp rv) p w) a) → ∀ ysp yus yva, post 1 (nI P, nI V, gC, nI F, gh, gs, nI rp, nI rv, gd, gl, yof, yfa, ype, ybe, ybl, ypa, yls, ysp, yus, yva))
    (h0 : qs_no P F (qs_act F mu) afb (qs_po (qs_wo al rp rv) p w) → ∀ ysp yus yva, post 0 (nI P, nI V, gC, nI F, gh, gs, nI rp, nI rv, gd, gl, yof, yfa, ype, ybe, ybl, ypa, yls, ysp, yus, yva)) :
    wpY_possible post (nI P, nI V, gC, nI F, gh, gs, nI rp, nI rv, gd, gl, yof, yfa, ype, ybe, ybl, ypa, yls, ysp, yus, yva) (nI p) (nI w) := by
  obtain ⟨hP2, hP, hV1, hV, hC, hF⟩ := id hB
  unfold wpY_possible
  dsimp only
  refine br_f hgs (qs_bp1 hP rfl hp (br_t rfl (br_f (nI_pos (by omega)) (br_t (nI_le hw (by omega)) ?_))))
  refine qs_ytop hP hA hrp (by omega) (fun ysp hsp => qs_yuse (by omega) hFc (fun yus hus => ⟨6, ?_⟩))
  refine qs_y42 (x := qs_wo al rp rv) hP hp (by omega) (fun ysp hsp' => ?_) 6 0 ysp (by omega) (by omega) (fun q z hq hz => ⟨fun c => by omega, fun _ => hsp q z hq hz⟩)
  refine qs_find hP (by omega) hsp' hus (qs_Fc_f hFc) (fun yva b hb _ => br_f (by decide) (h1 ⟨b, hb.1⟩ ysp yus yva)) (fun yva hno => br_t rfl (h0 hno ysp yus yva))
end
theorem i_vc_possible {k : Nat} {u : SX} {v : SY} (I : i_Rel k u v) (hk : k + 4 ≤ 2051) (v1 : Int32) (v2 : Int32) : wpX_possible (fun r u' => wpY_possible (fun r' v' => r' = r ∧ i_Rel (k + 4) u' v') v v1 v2) u v1 v2 := by
  refine qs_el (Q := fun u v => wpX_possible (fun r u' => wpY_possible (fun r' v' => r' = r ∧ i_Rel (k + 4) u' v') v v1 v2) u v1 v2) I ?_
  intro P V C F al mu hsu sP sL sH st rP rV so bl de hlr lb rc fr ol rf dm ts lv aff afb anb aru atc atr ald alt gh gs gp gv gd gl yof yfa ype ybe ybl ypa yls ysp yus yva hB hA hFc hPe hRl hRs
  obtain ⟨hP2, hP, hV1, hV, hC, hF⟩ := id hB
  have hgs := hRs.1
  subst hgs
  by_cases h0 : gs = 0
  · refine br_t h0 ?_
    exact br_t h0 ⟨rfl, qs_mk hB hA hFc hPe hRl hRs⟩
  · unfold wpX_possible
    dsimp only
    refine br_f h0 ?_
    rcases qs_pk hP v1 with hb | ⟨p, hp, rfl⟩
    · refine qs_pkg0 rfl hb (br_t rfl ?_)
      unfold wpY_possible
      dsimp only
      exact br_f h0 (qs_bp0 rfl hb (br_f (by decide) ⟨rfl, qs_mk hB hA hFc hPe hRl hRs⟩))
    · refine qs_pkg1 hP rfl hp (br_f (by decide) ?_)
      rcases qs_vl hV v2 with hb | ⟨w, hw, rfl⟩
      · refine qs_vlu0 rfl hb (br_t rfl ?_)
        unfold wpY_possible
        dsimp only
        refine br_f h0 (qs_bp1 hP rfl hp (br_t rfl (br_c (fun _ => ⟨rfl, qs_mk hB hA hFc hPe hRl hRs⟩) (fun hn => ?_))))
        rcases hb with hb | hb
        · exact absurd hb hn
        · exact br_f (Int32.not_le.mpr hb) ⟨rfl, qs_mk hB hA hFc hPe hRl hRs⟩
      · refine qs_vlu1 hV rfl hw (br_f (by decide) ?_)
        rcases id hRs.2 with z | ⟨rp, rv, hrp, hr1, hr2, e1, e2, e3, e4, hbt, hcase⟩
        · exact absurd z h0
        · subst e1 e2 e3 e4
          have hreg : qs_reg P V (qs_wo al rp rv) := qs_wo_reg hP hA.1 hrp hr2 hV
          have hne : qs_ne P (qs_wo al rp rv) := qs_wo_ne hP (qs_A_ne hA) hrp (by omega)
          have hno3 : ∀ (_ : qs_no P F (qs_act F mu) afb (qs_wo al rp rv)) (h3 : ¬ gs = 1), (gs = 1 → False) := fun _ h3 z => h3 z
          rcases hcase with ⟨hs1, b, hb, hin, hcl, hrg, hyb⟩ | ⟨hs1, hno⟩ | ⟨hs1, hno, _⟩
          · refine br_t hs1 (qs_ct (by omega) (br_c (fun hz => ?_) (fun hz => ?_)))
            · have ebw : b p = w := hcl p hp (b p) w (hb.1.1 p hp) (by omega) (hin p hp) (qs_011.mp hz)
              refine qs_ypos hB hA hFc hrp hr2 hp hw h0 (fun _ ysp yus yva => ⟨rfl, qs_mk hB hA hFc hPe hRl hRs⟩) (fun hno => absurd ⟨b, hb.1.1, fun q hq => ?_, hb.1.2.2⟩ hno)
              exact (qs_pob (by omega) (by omega) (by omega) (hb.1.1 q hq)).mpr ⟨hb.1.2.1 q hq, fun e => by rw [e]; exact ebw⟩
            · refine qs_topX (qs_ct (by omega) (br_c (fun hz2 => ?_) (fun hz2 => ?_)))
              · refine qs_ypos hB hA hFc hrp hr2 hp hw h0 (fun ⟨a, ha⟩ => ?_) (fun _ ysp yus yva => ⟨rfl, qs_mk hB hA hFc hPe hRl hRs⟩)
                exfalso
                have := (qs_pob (by omega) (by omega) (by omega) (ha.1 p hp)).mp (ha.2.1 p hp)
                rw [this.2 rfl, qs_010.mp hz2] at this
                exact absurd this.1 (by decide)
              · have hbt2 : bt (qs_wo al rp rv) (p * 5 + w) = true := by
                  cases e : bt (qs_wo al rp rv) (p * 5 + w)
                  · exact absurd (qs_010.mpr e) hz2
                  · rfl
                have hto : ∀ a, qs_sol P F (qs_act F mu) afb (qs_po (qs_wo al rp rv) p w) a → qs_sol P F (qs_act F mu) afb (qs_wo (qs_wo al rp rv) p w) a := fun a ha => qs_sol_b (fun q z hq hz c => by
                  have c' := (qs_pob (by omega) (by omega) (by omega) hz).mp c
                  refine (qs_wob (by omega) (by omega) (by omega) hz).mpr ?_
                  by_cases e : q = p
                  · exact Or.inl ⟨e, c'.2 e⟩
                  · exact Or.inr ⟨e, c'.1⟩) ha
                have hfrom : ∀ a, qs_sol P F (qs_act F mu) afb (qs_wo (qs_wo al rp rv) p w) a → qs_sol P F (qs_act F mu) afb (qs_po (qs_wo al rp rv) p w) a := fun a ha => qs_sol_b (fun q z hq hz c => by
                  refine (qs_pob (by omega) (by omega) (by omega) hz).mpr ?_
                  rcases (qs_wob (by omega) (by omega) (by omega) hz).mp c with c' | c'
                  · rw [c'.1, c'.2]; exact ⟨hbt2, fun _ => rfl⟩
                  · exact ⟨c'.2, fun e => absurd e c'.1⟩) ha
                refine qs_woX (qs_actX ?_)
                refine qs_search hP2 hP hV (by omega) (qs_wo_reg hP hreg hp hw hV) (qs_wo_ne hP hne hp (by omega)) (qs_Fc_31 hFc) hRl.1 (fun rc fr ol aru dm ts lv atc atr ald alt g1 g2 g3 g4 g5 => ?_) (fun rc fr ol aru dm ts lv atc atr ald alt g1 g2 => ?_)
                · refine br_f (by decide) ?_
                  refine qs_ypos hB hA hFc hrp hr2 hp hw h0 (fun _ ysp yus yva => ⟨rfl, qs_mk hB hA hFc hPe ⟨g1, qs_actk (by omega)⟩ hRs⟩) (fun hno => absurd ⟨_, hfrom _ g2.1⟩ hno)
                · refine br_t rfl ?_
                  refine qs_ypos hB hA hFc hrp hr2 hp hw h0 (fun ⟨a, ha⟩ => absurd ⟨a, hto a ha⟩ g2) (fun _ ysp yus yva => ⟨rfl, qs_mk hB hA hFc hPe ⟨g1, qs_actk (by omega)⟩ hRs⟩)
          · refine br_f (by rw [hs1]; decide) ?_
            exact qs_ypos hB hA hFc hrp hr2 hp hw h0 (fun ⟨a, ha⟩ => absurd ⟨a, qs_sol_m qs_po_sub ha⟩ hno) (fun _ ysp yus yva => ⟨rfl, qs_mk hB hA hFc hPe hRl hRs⟩)
          · refine br_f (by rw [hs1]; decide) ?_
            exact qs_ypos hB hA hFc hrp hr2 hp hw h0 (fun ⟨a, ha⟩ => absurd ⟨a, qs_sol_m qs_po_sub ha⟩ hno) (fun _ ysp yus yva => ⟨rfl, qs_mk hB hA hFc hPe hRl hRs⟩)
end
section
/-! ===== the reference: split, nodeSpace, closes; leafFact on both sides ===== -/
def qs_c5n (D : Int32) (p : Nat) : Nat → Nat
  | 0 => 0
  | v + 1 => qs_c5n D p v + (bt D (p * 5 + v)).toNat
theorem qs_c5f (f : Nat → Bool) : (0 + (f 0).toNat + (f 1).toNat + (f 2).toNat + (f 3).toNat + (f 4).toNat ≤ 1 ↔ ∀ v w, v < 5 → w < 5 → f v = true → f w = true → v = w) := by
  constructor
  · intro h v w hv hw h1 h2
    have h1' : (f v).toNat = 1 := by rw [h1]; rfl
    have h2' : (f w).toNat = 1 := by rw [h2]; rfl
    have a1 : v = 0 ∨ v = 1 ∨ v = 2 ∨ v = 3 ∨ v = 4 := by omega
    have a2 : w = 0 ∨ w = 1 ∨ w = 2 ∨ w = 3 ∨ w = 4 := by omega
    rcases a1 with rfl | rfl | rfl | rfl | rfl <;> rcases a2 with rfl | rfl | rfl | rfl | rfl <;> omega
  · intro h
    have h01 := h 0 1 (by omega) (by omega)
    have h02 := h 0 2 (by omega) (by omega)
    have h03 := h 0 3 (by omega) (by omega)
    have h04 := h 0 4 (by omega) (by omega)
    have h12 := h 1 2 (by omega) (by omega)
    have h13 := h 1 3 (by omega) (by omega)
    have h14 := h 1 4 (by omega) (by omega)
    have h23 := h 2 3 (by omega) (by omega)
    have h24 := h 2 4 (by omega) (by omega)
    have h34 := h 3 4 (by omega) (by omega)
    clear h
    generalize f 0 = b0 at *
    generalize f 1 = b1 at *
    generalize f 2 = b2 at *
    generalize f 3 = b3 at *
    generalize f 4 = b4 at *
    cases b0 <;> cases b1 <;> cases b2 <;> cases b3 <;> cases b4 <;> simp_all
theorem qs_c5cl {D : Int32} {p : Nat} : qs_c5n D p 5 ≤ 1 ↔ qs_cl D p := qs_c5f (fun v => bt D (p * 5 + v))
theorem qs_c5le (D : Int32) (p : Nat) : ∀ v, qs_c5n D p v ≤ v
  | 0 => Nat.le_refl 0
  | v + 1 => by
    have := qs_c5le D p v
    show qs_c5n D p v + (bt D (p * 5 + v)).toNat ≤ v + 1
    cases bt D (p * 5 + v)
    · show qs_c5n D p v + 0 ≤ v + 1; omega
    · show qs_c5n D p v + 1 ≤ v + 1; omega
section
variable {gP gV gC gF gh gs gp gv gd gl : Int32} {yof yfa ype ybe ybl ypa yls ysp yus yva : Nat → Int32} {P F : Nat} {D : Int32}
theorem qs_ysp14 {post : Int32 → Prop} {J : Int32 → Prop} {p : Nat} (hP : P ≤ 6) (hp : p < P) (hsp : qs_sp P ysp D) (hc : qs_cl D p → J (nI (p + 1))) (ho : ¬ qs_cl D p → post (nI p)) : ∀ n w, 5 < n + w → w ≤ 5 → wY_split_14 post J (nI p) gP gV gC gF gh gs gp gv gd gl yof yfa ype ybe ybl ypa yls ysp yus yva n (nI (qs_c5n D p w)) (nI w) := by
  intro n
  induction n with
  | zero => intro w h1 h2; omega
  | succ n ih =>
    intro w h1 h2
    have h5 := qs_c5le D p w
    refine pk_lt 4 w (fun hlt => ?_) (fun hle => ?_)
    · have e : w = 5 := by omega
      subst e
      refine pk_le (qs_c5n D p 5) 1 (fun hl => nm_r (nI_1 p) (hc (qs_c5cl.mp hl))) (fun hl => ho (fun z => ?_))
      have := qs_c5cl.mpr z
      omega
    · refine ⟨qs_i5 (by omega) (by omega), ?_⟩
      rw [qs_i5c (by omega) (by omega), hsp p w hp (by omega)]
      have hs : qs_c5n D p (w + 1) = qs_c5n D p w + (bt D (p * 5 + w)).toNat := rfl
      have ih' := ih (w + 1) (by omega) (by omega)
      rw [hs] at ih'
      cases e : bt D (p * 5 + w)
      · rw [e] at ih'
        exact br_t rfl (nm_r (nI_1 w) ih')
      · rw [e] at ih'
        exact br_f (by decide) (nm_r (nI_1 _) (nm_r (nI_1 w) ih'))
theorem qs_ysp2 {post : Int32 → Prop} (hP : P ≤ 6) (hsp : qs_sp P ysp D) (h5 : (∀ q, q < P → qs_cl D q) → post (-5)) (ho : ∀ p, p < P → ¬ qs_cl D p → (∀ q, q < p → qs_cl D q) → post (nI p)) : ∀ n p, P < n + p → p ≤ P → (∀ q, q < p → qs_cl D q) → wY_split_2 post (nI P) gV gC gF gh gs gp gv gd gl yof yfa ype ybe ybl ypa yls ysp yus yva n (nI p) := by
  intro n
  induction n with
  | zero => intro p h1 h2; omega
  | succ n ih =>
    intro p h1 h2 hq
    refine pk_le P p (fun hle => h5 fun q hq' => hq q (by omega)) (fun hlt => ?_)
    exact ⟨6, qs_ysp14 hP hlt hsp (fun hc => ih (p + 1) (by omega) (by omega) (lt_s hq hc)) (fun hn => ho p hlt hn hq) 6 0 (by omega) (by omega)⟩
theorem qs_ysplit {post : Int32 → Prop} (hP : P ≤ 6) (hsp : qs_sp P ysp D) (h5 : (∀ q, q < P → qs_cl D q) → post (-5)) (ho : ∀ p, p < P → ¬ qs_cl D p → (∀ q, q < p → qs_cl D q) → post (nI p)) : wpY_split post (nI P, gV, gC, gF, gh, gs, gp, gv, gd, gl, yof, yfa, ype, ybe, ybl, ypa, yls, ysp, yus, yva) :=
  ⟨P + 1, qs_ysp2 hP hsp h5 ho (P + 1) 0 (by omega) (by omega) (fun q hq => by omega)⟩
theorem qs_yn21 {post : SY → Prop} {J : Int32 → (Nat → Int32) → (Nat → Int32) → (Nat → Int32) → (Nat → Int32) → (Nat → Int32) → (Nat → Int32) → (Nat → Int32) → (Nat → Int32) → (Nat → Int32) → (Nat → Int32) → Prop} {d p v : Nat} {x : Int32} (hP : P ≤ 6) (hp : p < P) (hv : v < 5) (hd : d < 6) (hpa : ypa d = nI v) (hJ : ∀ ysp, qs_sp P ysp (qs_wo x p v) → J (nI (d + 1)) yof yfa ype ybe ybl ypa yls ysp yus yva) :
    ∀ n w ysp, 5 < n + w → w ≤ 5 → (∀ q z, q < P → z < 5 → ((q = p ∧ z < w → ysp (q * 5 + z) = qs_01 (bt (qs_wo x p v) (q * 5 + z))) ∧ (¬ (q = p ∧ z < w) → ysp (q * 5 + z) = qs_01 (bt x (q * 5 + z))))) → wY_nodeSpace_21 post J (nI d) (nI p) (nI P) gV gC gF gh gs gp gv gd gl n (nI w) yof yfa ype ybe ybl ypa yls ysp yus yva := by
  intro n
  induction n with
  | zero => intro w ysp h1 h2; omega
  | succ n ih =>
    intro w ysp h1 h2 hs
    refine pk_lt 4 w (fun hlt => ?_) (fun hle => ?_)
    · refine nm_r (nI_1 d) (hJ ysp fun q z hq hz => ?_)
      by_cases e : q = p
      · exact (hs q z hq hz).1 ⟨e, by omega⟩
      · rw [(hs q z hq hz).2 (fun c => e c.1)]
        congr 1
        cases eb : bt x (q * 5 + z)
        · symm
          refine qs_tf fun c => ?_
          rcases (qs_wob (by omega) hv (by omega) hz).mp c with c | c
          · exact e c.1
          · rw [eb] at c; exact absurd c.2 (by decide)
        · exact ((qs_wob (by omega) hv (by omega) hz).mpr (Or.inr ⟨e, eb⟩)).symm
    · have i5 : vp_in (nI p * 5 + nI w) 30 := qs_i5 (by omega) (by omega)
      have c5 : (nI p * 5 + nI w).toNatClampNeg = p * 5 + w := qs_i5c (by omega) (by omega)
      have step : ∀ b : Bool, b = bt (qs_wo x p v) (p * 5 + w) → wY_nodeSpace_21 post J (nI d) (nI p) (nI P) gV gC gF gh gs gp gv gd gl n (nI (w + 1)) yof yfa ype ybe ybl ypa yls (upd ysp (p * 5 + w) (qs_01 b)) yus yva := by
        intro b hb
        refine ih (w + 1) _ (by omega) (by omega) (fun q z hq hz => ⟨fun c => ?_, fun c => ?_⟩)
        · by_cases e : z = w
          · rw [c.1, e, pk_us, hb]
          · rw [pk_un (by omega)]; exact (hs q z hq hz).1 ⟨c.1, by omega⟩
        · rw [pk_un (by omega)]; exact (hs q z hq hz).2 (by omega)
      refine br_f (nI_pos (by omega)) ⟨pk_in d 6 hd, ?_⟩
      rw [nI_clamp (n := d) (by omega), hpa]
      refine pk_eq w v (fun e => ?_) (fun e => ?_)
      · refine ⟨i5, nm_r (e' := upd ysp (p * 5 + w) (qs_01 true)) (by rw [c5]; rfl) (nm_r (nI_1 w) (step true ?_))⟩
        exact ((qs_wob (by omega) hv (by omega) (by omega)).mpr (Or.inl ⟨rfl, e⟩)).symm
      · refine ⟨i5, nm_r (e' := upd ysp (p * 5 + w) (qs_01 false)) (by rw [c5]; rfl) (nm_r (nI_1 w) (step false ?_))⟩
        symm
        refine qs_tf fun c => ?_
        rcases (qs_wob (by omega) hv (by omega) (by omega)).mp c with c | c
        · exact e c.2
        · exact c.1 rfl
theorem qs_yn6 {post : SY → Prop} {top : Int32} {anb : Nat → Int32} {dd : Nat} (hP : P ≤ 6) (hnd : qs_nd P top anb ypa dd) (h : ∀ ysp, qs_sp P ysp (anb dd) → post (nI P, gV, gC, gF, gh, gs, gp, gv, nI dd, gl, yof, yfa, ype, ybe, ybl, ypa, yls, ysp, yus, yva)) : ∀ n d ysp, dd < n + d → d ≤ dd → qs_sp P ysp (anb d) → wY_nodeSpace_6 post (nI P) gV gC gF gh gs gp gv (nI dd) gl n (nI d) yof yfa ype ybe ybl ypa yls ysp yus yva := by
  have hdP := (qs_nd_le hP hnd dd (Nat.le_refl _)).1
  intro n
  induction n with
  | zero => intro d ysp h1 h2; omega
  | succ n ih =>
    intro d ysp h1 h2 hs
    refine pk_le dd d (fun hle => ?_) (fun hlt => ?_)
    · have e : d = dd := by omega
      subst e
      exact h ysp hs
    · obtain ⟨p, v, hp, hv, hno, hcl, hb, hpa, en⟩ := hnd.2 d hlt
      refine qs_ysplit hP hs (fun hall => absurd (hall p hp) hno) (fun p' hp' hno' hcl' => ?_)
      have e : p' = p := by
        rcases Nat.lt_trichotomy p' p with z | z | z
        · exact absurd (hcl p' z) hno'
        · exact z
        · exact absurd (hcl' p z) hno
      subst e
      refine ⟨6, qs_yn21 (x := anb d) hP hp hv (by omega) hpa (fun ysp hs' => ?_) 6 0 ysp (by omega) (by omega) (fun q z hq hz => ⟨fun c => by omega, fun _ => hs q z hq hz⟩)⟩
      refine ih (d + 1) ysp (by omega) (by omega) ?_
      rw [en]
      exact hs'
/-! closes -/
theorem qs_ycl36 {post : Int32 → Prop} {J : Int32 → Prop} {B : Int32} {a f kd s sl sh o ol oh : Nat} (hP : P ≤ 6) (hf : f < 20) (h : qs_fct P B yfa f kd s sl sh o ol oh) (hsp : qs_sp P ysp D) (ha : a < 5)
    (h0 : ∀ b, b < 5 → bt D (s * 5 + a) = true → bt D (o * 5 + b) = true → (s = o → a = b) → ¬ ((sl ≤ a ∧ a ≤ sh) ∧ qs_ob kd ol oh b) → post 0)
    (hJ : (∀ b, b < 5 → bt D (s * 5 + a) = true → bt D (o * 5 + b) = true → (s = o → a = b) → (sl ≤ a ∧ a ≤ sh) ∧ qs_ob kd ol oh b) → J (nI (a + 1))) :
    ∀ n b, 5 < n + b → b ≤ 5 → (∀ b', b' < b → bt D (s * 5 + a) = true → bt D (o * 5 + b') = true → (s = o → a = b') → (sl ≤ a ∧ a ≤ sh) ∧ qs_ob kd ol oh b') → wY_closes_36 post J (nI f) (nI s) (nI o) (nI a) gP gV gC gF gh gs gp gv gd gl yof yfa ype ybe ybl ypa yls ysp yus yva n (nI b) := by
  obtain ⟨_, _, hs, ho, _, _, _, _, _, _⟩ := id h
  intro n
  induction n with
  | zero => intro b h1 h2; omega
  | succ n ih =>
    intro b h1 h2 hq
    refine pk_lt 4 b (fun hlt => ?_) (fun hle => ?_)
    · exact nm_r (nI_1 a) (hJ fun b' hb' => hq b' (by omega))
    · have skip : ∀ {z : Prop}, (bt D (s * 5 + a) = true → bt D (o * 5 + b) = true → (s = o → a = b) → False) → wY_closes_86 post J (wY_closes_36 post J (nI f) (nI s) (nI o) (nI a) gP gV gC gF gh gs gp gv gd gl yof yfa ype ybe ybl ypa yls ysp yus yva n) (nI f) (nI s) (nI o) (nI a) (nI b) gP gV gC gF gh gs gp gv gd gl yof yfa ype ybe ybl ypa yls ysp yus yva := by
        intro _ hz
        exact br_t rfl (nm_r (nI_1 b) (ih (b + 1) (by omega) (by omega) (lt_s hq fun c1 c2 c3 => absurd c3 (fun c3 => hz c1 c2 c3))))
      have go : bt D (s * 5 + a) = true → bt D (o * 5 + b) = true → (s = o → a = b) → wY_closes_82 post J (wY_closes_36 post J (nI f) (nI s) (nI o) (nI a) gP gV gC gF gh gs gp gv gd gl yof yfa ype ybe ybl ypa yls ysp yus yva n) (nI f) (nI s) (nI o) (nI a) (nI b) gP gV gC gF gh gs gp gv gd gl yof yfa ype ybe ybl ypa yls ysp yus yva := by
        intro c1 c2 c3
        refine br_f (by decide) (qs_viol hf h ha (by omega) (fun hv => ?_) (fun hv => ?_))
        · exact br_f (by decide) (nm_r (nI_1 b) (ih (b + 1) (by omega) (by omega) (lt_s hq fun _ _ _ => hv)))
        · exact br_t rfl (h0 b (by omega) c1 c2 c3 hv)
      refine ⟨qs_i5 (by omega) ha, ?_⟩
      rw [qs_i5c (by omega) ha, hsp s a hs ha]
      refine br_c (fun hz => skip (z := True) fun c1 _ _ => ?_) (fun hz => ?_)
      · rw [qs_010.mp hz] at c1; exact absurd c1 (by decide)
      · have c1 : bt D (s * 5 + a) = true := by
          cases e : bt D (s * 5 + a)
          · exact absurd (qs_010.mpr e) hz
          · rfl
        refine ⟨qs_i5 (by omega) (by omega), ?_⟩
        rw [qs_i5c (by omega) (by omega), hsp o b ho (by omega)]
        refine br_c (fun hz => skip (z := True) fun _ c2 _ => ?_) (fun hz => ?_)
        · rw [qs_010.mp hz] at c2; exact absurd c2 (by decide)
        · have c2 : bt D (o * 5 + b) = true := by
            cases e : bt D (o * 5 + b)
            · exact absurd (qs_010.mpr e) hz
            · rfl
          refine pk_eq s o (fun e => ?_) (fun e => ?_)
          · refine pk_eq a b (fun e2 => go c1 c2 (fun _ => e2)) (fun e2 => skip (z := True) fun _ _ c3 => e2 (c3 e))
          · exact go c1 c2 (fun z => absurd z e)
theorem qs_ycl27 {post : Int32 → Prop} {B : Int32} {f kd s sl sh o ol oh : Nat} (hP : P ≤ 6) (hf : f < 20) (h : qs_fct P B yfa f kd s sl sh o ol oh) (hsp : qs_sp P ysp D)
    (h0 : ∀ a b, a < 5 → b < 5 → bt D (s * 5 + a) = true → bt D (o * 5 + b) = true → (s = o → a = b) → ¬ ((sl ≤ a ∧ a ≤ sh) ∧ qs_ob kd ol oh b) → post 0)
    (h1 : (∀ a b, a < 5 → b < 5 → bt D (s * 5 + a) = true → bt D (o * 5 + b) = true → (s = o → a = b) → (sl ≤ a ∧ a ≤ sh) ∧ qs_ob kd ol oh b) → post 1) :
    ∀ n a, 5 < n + a → a ≤ 5 → (∀ a' b, a' < a → b < 5 → bt D (s * 5 + a') = true → bt D (o * 5 + b) = true → (s = o → a' = b) → (sl ≤ a' ∧ a' ≤ sh) ∧ qs_ob kd ol oh b) → wY_closes_27 post (nI f) (nI s) (nI o) gP gV gC gF gh gs gp gv gd gl yof yfa ype ybe ybl ypa yls ysp yus yva n (nI a) := by
  intro n
  induction n with
  | zero => intro a g1 g2; omega
  | succ n ih =>
    intro a g1 g2 hq
    refine pk_lt 4 a (fun hlt => ?_) (fun hle => ?_)
    · exact h1 fun a' b ha hb => hq a' b (by omega) hb
    · refine ⟨6, qs_ycl36 hP hf h hsp (by omega) (fun b hb => h0 a b (by omega) hb) (fun hall => ih (a + 1) (by omega) (by omega) (fun a' b ha hb => ?_)) 6 0 (by omega) (by omega) (fun b' hb' => by omega)⟩
      by_cases e : a' = a
      · rw [e]; exact hall b hb
      · exact hq a' b (by omega) hb
theorem qs_ycl {post : Int32 → Prop} {V f : Nat} {B : Int32} (hP : P ≤ 6) (hf : f < 20) (h : qs_fact P B yfa f) (hsp : qs_sp P ysp D) (hne : qs_ne P D) (hreg : qs_reg P V D) (h1 : qs_sub D B → post 1) (h0 : ¬ qs_sub D B → post 0) : wpY_closes post (gP, gV, gC, gF, gh, gs, gp, gv, gd, gl, yof, yfa, ype, ybe, ybl, ypa, yls, ysp, yus, yva) (nI f) := by
  obtain ⟨kd, s, sl, sh, o, ol, oh, h⟩ := h
  obtain ⟨⟨_, e1, _, _, e4, _, _⟩, _, hs, ho, _, _, _, _, _, hb⟩ := id h
  have c1 : (nI f * 8 + 1).toNatClampNeg = f * 8 + 1 := qs_i8c (j := 1) hf (by omega)
  have c4 : (nI f * 8 + 4).toNatClampNeg = f * 8 + 4 := qs_i8c (j := 4) hf (by omega)
  refine ⟨qs_i8 (j := 1) hf (by omega), nm_r (e' := nI s) (by rw [c1]; exact e1) ⟨qs_i8 (j := 4) hf (by omega), nm_r (e' := nI o) (by rw [c4]; exact e4) ⟨6, ?_⟩⟩⟩
  refine qs_ycl27 hP hf h hsp (fun a b ha hb' d1 d2 d3 d4 => h0 fun hsub => d4 ?_) (fun hall => h1 fun i hi hd => ?_) 6 0 (by omega) (by omega) (fun a' b ha => by omega)
  · exact ⟨((hb s a hs ha).mp (hsub _ (by omega) d1)).1 rfl, ((hb o b ho hb').mp (hsub _ (by omega) d2)).2 rfl⟩
  · have h3 := (hreg i hi hd).1
    have e : i = i / 5 * 5 + i % 5 := by omega
    rw [e] at hd ⊢
    have hv5 : i % 5 < 5 := Nat.mod_lt _ (by omega)
    refine (hb (i / 5) (i % 5) (by omega) hv5).mpr ⟨fun es => ?_, fun eo => ?_⟩
    · by_cases eso : s = o
      · exact (hall (i % 5) (i % 5) hv5 hv5 (by rw [← es]; exact hd) (by rw [← eso, ← es]; exact hd) (fun _ => rfl)).1
      · obtain ⟨b, hb5, hbb⟩ := hne o ho
        exact (hall (i % 5) b hv5 hb5 (by rw [← es]; exact hd) hbb (fun z => absurd z eso)).1
    · by_cases eso : s = o
      · exact (hall (i % 5) (i % 5) hv5 hv5 (by rw [eso, ← eo]; exact hd) (by rw [← eo]; exact hd) (fun _ => rfl)).2
      · obtain ⟨a, ha5, hab⟩ := hne s hs
        exact (hall a (i % 5) ha5 hv5 hab (by rw [← eo]; exact hd) (fun z => absurd z eso)).2
end
/-! leafFact -/
def qs_LF (F : Nat) (bl : Int32) (fb : Nat → Int32) (D r : Int32) : Prop := (r = -5 ∧ ∀ f, f < F → bt bl f = true → ¬ qs_sub D (fb f)) ∨ ∃ f, f < F ∧ r = nI f ∧ bt bl f = true ∧ qs_sub D (fb f) ∧ ∀ g, g < f → bt bl g = true → ¬ qs_sub D (fb g)
theorem qs_LF_u {F : Nat} {bl : Int32} {fb : Nat → Int32} {D r r' : Int32} (h : qs_LF F bl fb D r) (h' : qs_LF F bl fb D r') : r = r' := by
  rcases h with ⟨e, h⟩ | ⟨f, hf, e, hb, hs, hl⟩
  · rcases h' with ⟨e', h'⟩ | ⟨f', hf', e', hb', hs', hl'⟩
    · rw [e, e']
    · exact absurd hs' (h f' hf' hb')
  · rcases h' with ⟨e', h'⟩ | ⟨f', hf', e', hb', hs', hl'⟩
    · exact absurd hs (h' f hf hb)
    · rcases Nat.lt_trichotomy f f' with z | z | z
      · exact absurd hs (hl' f z hb)
      · rw [e, e', z]
      · exact absurd hs' (hl f' z hb')
section
variable {fP fV fC al fF mu hsu sP sL sH st rP rV so bl de hlr lb rc fr ol rf dm ts lv : Int32} {aff afb anb aru atc atr ald alt : Nat → Int32} {gP gV gC gF gh gs gp gv gd gl : Int32} {yof yfa ype ybe ybl ypa yls ysp yus yva : Nat → Int32} {P V F : Nat}
theorem qs_lfX2 {post : Int32 → Prop} {D : Int32} (hF : F ≤ 20) (h : ∀ r, qs_LF F bl afb D r → post r) : ∀ n f, F < n + f → f ≤ F → (∀ g, g < f → bt bl g = true → ¬ qs_sub D (afb g)) → wX_leafFact_2 post D fP fV fC al (nI F) mu hsu sP sL sH st rP rV so bl de hlr lb rc fr ol rf dm ts lv aff afb anb aru atc atr ald alt n (nI f) := by
  intro n
  induction n with
  | zero => intro f h1 h2; omega
  | succ n ih =>
    intro f h1 h2 hq
    refine pk_le F f (fun hle => ?_) (fun hlt => ?_)
    · exact h _ (Or.inl ⟨rfl, fun g hg => hq g (by omega)⟩)
    · have eb := qs_bitI bl (j := f) (by omega)
      rw [eb]
      refine br_c (fun hk => ?_) (fun hk => ?_)
      · refine ⟨pk_in f 20 (by omega), ?_⟩
        rw [nI_clamp (by omega)]
        refine br_c (fun hz => ?_) (fun hz => ?_)
        · exact h _ (Or.inr ⟨f, hlt, rfl, qs_011.mp hk, qs_subZ.mp hz, hq⟩)
        · exact nm_r (nI_1 f) (ih (f + 1) (by omega) (by omega) (lt_s hq fun _ hs => hz (qs_subZ.mpr hs)))
      · exact nm_r (nI_1 f) (ih (f + 1) (by omega) (by omega) (lt_s hq fun hb _ => hk (qs_011.mpr hb)))
theorem qs_lfX {post : Int32 → Prop} {D : Int32} (hF : F ≤ 20) (h : ∀ r, qs_LF F bl afb D r → post r) : wpX_leafFact post (fP, fV, fC, al, nI F, mu, hsu, sP, sL, sH, st, rP, rV, so, bl, de, hlr, lb, rc, fr, ol, rf, dm, ts, lv, aff, afb, anb, aru, atc, atr, ald, alt) D :=
  ⟨F + 1, qs_lfX2 hF h (F + 1) 0 (by omega) (by omega) (fun g hg => by omega)⟩
theorem qs_lfY2 {post : Int32 → Prop} {D : Int32} (hP : P ≤ 6) (hF : F ≤ 20) (hfa : ∀ f, f < F → qs_fact P (afb f) yfa f) (hbl : ∀ f, f < F → ybl f = qs_01 (bt bl f)) (hsp : qs_sp P ysp D) (hne : qs_ne P D) (hreg : qs_reg P V D) (h : ∀ r, qs_LF F bl afb D r → post r) : ∀ n f, F < n + f → f ≤ F → (∀ g, g < f → bt bl g = true → ¬ qs_sub D (afb g)) → wY_leafFact_2 post gP gV gC (nI F) gh gs gp gv gd gl yof yfa ype ybe ybl ypa yls ysp yus yva n (nI f) := by
  intro n
  induction n with
  | zero => intro f h1 h2; omega
  | succ n ih =>
    intro f h1 h2 hq
    refine pk_le F f (fun hle => ?_) (fun hlt => ?_)
    · exact h _ (Or.inl ⟨rfl, fun g hg => hq g (by omega)⟩)
    · refine ⟨pk_in f 20 (by omega), ?_⟩
      rw [nI_clamp (by omega), hbl f hlt]
      refine br_c (fun hz => ?_) (fun hz => ?_)
      · refine nm_r (nI_1 f) (ih (f + 1) (by omega) (by omega) (lt_s hq fun hb _ => ?_))
        rw [qs_010.mp hz] at hb; exact absurd hb (by decide)
      · have hb : bt bl f = true := by
          cases e : bt bl f
          · exact absurd (qs_010.mpr e) hz
          · rfl
        refine qs_ycl hP (by omega) (hfa f hlt) hsp hne hreg (fun hs => ?_) (fun hs => ?_)
        · exact br_f (by decide) (h _ (Or.inr ⟨f, hlt, rfl, hb, hs, hq⟩))
        · exact br_t rfl (nm_r (nI_1 f) (ih (f + 1) (by omega) (by omega) (lt_s hq fun _ => hs)))
theorem qs_lfY {post : Int32 → Prop} {D : Int32} (hP : P ≤ 6) (hF : F ≤ 20) (hfa : ∀ f, f < F → qs_fact P (afb f) yfa f) (hbl : ∀ f, f < F → ybl f = qs_01 (bt bl f)) (hsp : qs_sp P ysp D) (hne : qs_ne P D) (hreg : qs_reg P V D) (h : ∀ r, qs_LF F bl afb D r → post r) : wpY_leafFact post (gP, gV, gC, nI F, gh, gs, gp, gv, gd, gl, yof, yfa, ype, ybe, ybl, ypa, yls, ysp, yus, yva) :=
  ⟨F + 1, qs_lfY2 hP hF hfa hbl hsp hne hreg h (F + 1) 0 (by omega) (by omega) (fun g hg => by omega)⟩
theorem qs_ynode {post : SY → Prop} {rp rv dd : Nat} (hP : P ≤ 6) (hA : qs_A P V al yof) (hrp : rp < P) (hrv : rv < 5) (hnd : qs_nd P (qs_wo al rp rv) anb ypa dd) (h : ∀ ysp, qs_sp P ysp (anb dd) → post (nI P, gV, gC, gF, gh, gs, nI rp, nI rv, nI dd, gl, yof, yfa, ype, ybe, ybl, ypa, yls, ysp, yus, yva)) : wpY_nodeSpace post (nI P, gV, gC, gF, gh, gs, nI rp, nI rv, nI dd, gl, yof, yfa, ype, ybe, ybl, ypa, yls, ysp, yus, yva) := by
  unfold wpY_nodeSpace
  dsimp only
  refine qs_ytop hP hA hrp hrv (fun ysp hsp => ⟨dd + 1, ?_⟩)
  refine qs_yn6 hP hnd h (dd + 1) 0 ysp (by omega) (by omega) ?_
  rw [hnd.1]
  exact hsp
end
theorem qs_nd_box {P V : Nat} {top : Int32} {anb ypa : Nat → Int32} {dd : Nat} (hP : P ≤ 6) (hn : qs_ne P top) (hr : qs_reg P V top) (h : qs_nd P top anb ypa dd) : ∀ d, d ≤ dd → qs_ne P (anb d) ∧ qs_reg P V (anb d) ∧ qs_sub (anb d) top := by
  intro d
  induction d with
  | zero => intro _; rw [h.1]; exact ⟨hn, hr, qs_sub_r _⟩
  | succ d ih =>
    intro hd
    obtain ⟨h1, h2, h3⟩ := ih (by omega)
    obtain ⟨p, v, hp, hv, _, _, hb, _, e⟩ := h.2 d (by omega)
    rw [e]
    have hsub : qs_sub (qs_wo (anb d) p v) (anb d) := by
      intro i hi hw
      rcases qs_ot.mp hw with z | z
      · exact ((qs_ant hi).mp z).1
      · rw [qs_bb (by omega) hi] at z
        rw [of_decide_eq_true z]; exact hb
    exact ⟨qs_wo_ne hP h1 hp hv, qs_reg_m hsub h2, qs_sub_t hsub h3⟩
end
section
/-! ===== descend, node, holds ===== -/
theorem qs_nm5 {f : Nat} (h : f < 2 ^ 31) : ¬ nI f = -5 := fun z => nI_pos h (by rw [z]; decide)
theorem qs_fou {D : Int32} {p p' : Nat} (h1 : ¬ qs_cl D p) (h2 : ∀ q, q < p → qs_cl D q) (h1' : ¬ qs_cl D p') (h2' : ∀ q, q < p' → qs_cl D q) : p' = p := by
  rcases Nat.lt_trichotomy p' p with z | z | z
  · exact absurd (h2 p' z) h1'
  · exact z
  · exact absurd (h2' p z) h1
theorem i_vc_holds {k : Nat} {u : SX} {v : SY} (I : i_Rel k u v) (hk : k + 4 ≤ 2051) (v1 : Int32) (v2 : Int32) : wpX_holds (fun r => wpY_holds (fun r' v' => r' = r ∧ i_Rel (k + 4) u v') v v1 v2) u v1 v2 := by
  refine qs_el (Q := fun u v => wpX_holds (fun r => wpY_holds (fun r' v' => r' = r ∧ i_Rel (k + 4) u v') v v1 v2) u v1 v2) I ?_
  intro P V C F al mu hsu sP sL sH st rP rV so bl de hlr lb rc fr ol rf dm ts lv aff afb anb aru atc atr ald alt gh gs gp gv gd gl yof yfa ype ybe ybl ypa yls ysp yus yva hB hA hFc hPe hRl hRs
  obtain ⟨hP2, hP, hV1, hV, hC, hF⟩ := id hB
  have hgs := hRs.1
  subst hgs
  unfold wpX_holds wpY_holds
  dsimp only
  refine br_c (fun h3 => ?_) (fun h3 => br_f h3 ⟨rfl, qs_mk hB hA hFc hPe hRl hRs⟩)
  obtain ⟨rp, rv, a1, a2, a3, a4, a5, a6, a7, a8, a9, b1, b2, b3, dd, b4, b5, b6, b7⟩ := qs_Rs3 hRs h3
  subst a4 a5 a6 a7 b4 b5
  have hdP := (qs_nd_le hP b6 dd (Nat.le_refl _)).1
  rcases qs_pk hP v1 with hb | ⟨p, hp, rfl⟩
  · refine qs_pkg0 rfl hb (br_t rfl (br_t h3 ?_))
    exact qs_bp0 rfl hb (br_f (by decide) ⟨rfl, qs_mk hB hA hFc hPe hRl hRs⟩)
  · refine qs_pkg1 hP rfl hp (br_f (by decide) ?_)
    rcases qs_vl hV v2 with hb | ⟨w, hw, rfl⟩
    · refine qs_vlu0 rfl hb (br_t rfl (br_t h3 (qs_bp1 hP rfl hp (br_t rfl ?_))))
      refine br_c (fun _ => ⟨rfl, qs_mk hB hA hFc hPe hRl hRs⟩) (fun hn => ?_)
      rcases hb with hb | hb
      · exact absurd hb hn
      · exact br_f (Int32.not_le.mpr hb) ⟨rfl, qs_mk hB hA hFc hPe hRl hRs⟩
    · refine qs_vlu1 hV rfl hw (br_f (by decide) ⟨pk_in dd 8 (by omega), ?_⟩)
      rw [nI_clamp (n := dd) (by omega)]
      refine qs_ct (by omega) (br_t h3 (qs_bp1 hP rfl hp (br_t rfl (br_f (nI_pos (by omega)) (br_t (nI_le hw (by omega)) ?_)))))
      refine qs_ynode hP hA a1 (by omega) b6 (fun ysp hsp => ⟨qs_i5 (by omega) (by omega), ?_⟩)
      dsimp only
      rw [qs_i5c (by omega) (by omega), hsp p w hp (by omega)]
      refine br_c (fun hz => ⟨hz.symm, qs_mk hB hA hFc hPe hRl hRs⟩) (fun hz => ⟨?_, qs_mk hB hA hFc hPe hRl hRs⟩)
      cases e : bt (anb dd) (p * 5 + w)
      · exact absurd (qs_010.mpr e) hz
      · rfl
theorem i_vc_node {k : Nat} {u : SX} {v : SY} (I : i_Rel k u v) (hk : k + 4 ≤ 2051) (v1 : Int32) : wpX_node (fun r => wpY_node (fun r' v' => r' = r ∧ i_Rel (k + 4) u v') v v1) u v1 := by
  refine qs_el (Q := fun u v => wpX_node (fun r => wpY_node (fun r' v' => r' = r ∧ i_Rel (k + 4) u v') v v1) u v1) I ?_
  intro P V C F al mu hsu sP sL sH st rP rV so bl de hlr lb rc fr ol rf dm ts lv aff afb anb aru atc atr ald alt gh gs gp gv gd gl yof yfa ype ybe ybl ypa yls ysp yus yva hB hA hFc hPe hRl hRs
  obtain ⟨hP2, hP, hV1, hV, hC, hF⟩ := id hB
  have hgs := hRs.1
  subst hgs
  refine br_c (fun h3 => ?_) (fun h3 => br_f h3 ⟨rfl, qs_mk hB hA hFc hPe hRl hRs⟩)
  obtain ⟨rp, rv, a1, a2, a3, a4, a5, a6, a7, a8, a9, b1, b2, b3, dd, b4, b5, b6, b7⟩ := qs_Rs3 hRs h3
  subst a4 a5 a6 a7 b4 b5
  have hdP := (qs_nd_le hP b6 dd (Nat.le_refl _)).1
  have hreg : qs_reg P V (qs_wo al rp rv) := qs_wo_reg hP hA.1 a1 a3 hV
  have hne : qs_ne P (qs_wo al rp rv) := qs_wo_ne hP (qs_A_ne hA) a1 (by omega)
  obtain ⟨hn, hr, _⟩ := qs_nd_box hP hne hreg b6 dd (Nat.le_refl _)
  have cd : (nI dd).toNatClampNeg = dd := nI_clamp (by omega)
  by_cases e0 : v1 = 0
  · subst e0
    exact br_t rfl (br_t rfl (br_t h3 (br_t rfl (br_t rfl ⟨rfl, qs_mk hB hA hFc hPe hRl hRs⟩))))
  · by_cases e1 : v1 = 1
    · subst e1
      refine br_f (by decide) (br_t rfl (br_f (by decide) ⟨pk_in dd 8 (by omega), nm_r (e' := anb dd) (by rw [cd]) ?_⟩))
      refine qs_lfX (by omega) (fun r hlr1 => br_t rfl (br_t h3 (br_f (by decide) (br_t rfl (br_f (by decide) ?_)))))
      refine qs_ynode hP hA a1 (by omega) b6 (fun ysp hsp => ?_)
      refine qs_lfY hP (by omega) (qs_Fc_f hFc) b3 hsp hn hr (fun r' hlr2 => br_t rfl ⟨qs_LF_u hlr2 hlr1, qs_mk hB hA hFc hPe hRl hRs⟩)
    · by_cases e2 : v1 = 2
      · subst e2
        refine br_f (by decide) (br_f (by decide) (br_t rfl (br_f (by decide) ⟨pk_in dd 8 (by omega), nm_r (e' := anb dd) (by rw [cd]) ?_⟩)))
        refine qs_lfX (by omega) (fun r hlr1 => br_f (by decide) (qs_fo hP rfl (fun r2 hfo => ?_)))
        refine br_c (fun hr5 => ?_) (fun hr5 => ?_)
        · rcases hfo with ⟨e, hcl⟩ | ⟨p, hp, e, hop, hcl⟩
          · subst e
            refine br_f (by decide) (br_t h3 (br_f (by decide) (br_f (by decide) (br_t rfl (br_f (by decide) ?_)))))
            refine qs_ynode hP hA a1 (by omega) b6 (fun ysp hsp => ?_)
            refine qs_lfY hP (by omega) (qs_Fc_f hFc) b3 hsp hn hr (fun r' hlr2 => br_f (by decide) (br_t ((qs_LF_u hlr2 hlr1).trans hr5) ?_))
            exact qs_ysplit hP hsp (fun _ => ⟨rfl, qs_mk hB hA hFc hPe hRl hRs⟩) (fun p hp hno _ => absurd (hcl p hp) hno)
          · subst e
            refine br_t (nI_pos' (by omega)) (br_t h3 (br_f (by decide) (br_f (by decide) (br_t rfl (br_f (by decide) ?_)))))
            refine qs_ynode hP hA a1 (by omega) b6 (fun ysp hsp => ?_)
            refine qs_lfY hP (by omega) (qs_Fc_f hFc) b3 hsp hn hr (fun r' hlr2 => br_f (by decide) (br_t ((qs_LF_u hlr2 hlr1).trans hr5) ?_))
            exact qs_ysplit hP hsp (fun hall => absurd (hall p hp) hop) (fun p' hp' hno hcl' => ⟨congrArg nI (qs_fou hop hcl hno hcl'), qs_mk hB hA hFc hPe hRl hRs⟩)
        · refine br_t h3 (br_f (by decide) (br_f (by decide) (br_t rfl (br_f (by decide) ?_))))
          refine qs_ynode hP hA a1 (by omega) b6 (fun ysp hsp => ?_)
          exact qs_lfY hP (by omega) (qs_Fc_f hFc) b3 hsp hn hr (fun r' hlr2 => br_f (by decide) (br_f (fun z => hr5 ((qs_LF_u hlr1 hlr2).trans z)) ⟨rfl, qs_mk hB hA hFc hPe hRl hRs⟩))
      · exact br_f e0 (br_f e1 (br_f e2 (br_t h3 (br_f e0 (br_f e1 (br_f e2 ⟨rfl, qs_mk hB hA hFc hPe hRl hRs⟩))))))
theorem qs_nd_up {P : Nat} {top : Int32} {anb ypa : Nat → Int32} {dd p w : Nat} (h : qs_nd P top anb ypa dd) (hp : p < P) (hw : w < 5) (ho : ¬ qs_cl (anb dd) p) (hc : ∀ q, q < p → qs_cl (anb dd) q) (hb : bt (anb dd) (p * 5 + w) = true) : qs_nd P top (upd anb (dd + 1) (qs_wo (anb dd) p w)) (upd ypa dd (nI w)) (dd + 1) := by
  refine ⟨by rw [pk_un (by omega)]; exact h.1, fun d hd => ?_⟩
  by_cases e : d = dd
  · subst e
    exact ⟨p, w, hp, hw, by rw [pk_un (by omega)]; exact ho, by rw [pk_un (by omega)]; exact hc, by rw [pk_un (by omega)]; exact hb, pk_us, by rw [pk_us, pk_un (by omega)]⟩
  · obtain ⟨p', v', c1, c2, c3, c4, c5, c6, c7⟩ := h.2 d (by omega)
    exact ⟨p', v', c1, c2, by rw [pk_un (by omega)]; exact c3, by rw [pk_un (by omega)]; exact c4, by rw [pk_un (by omega)]; exact c5, by rw [pk_un (by omega)]; exact c6, by rw [pk_un (by omega), pk_un (by omega)]; exact c7⟩
theorem i_vc_descend {k : Nat} {u : SX} {v : SY} (I : i_Rel k u v) (hk : k + 4 ≤ 2051) (v1 : Int32) : wpX_descend (fun r u' => wpY_descend (fun r' v' => r' = r ∧ i_Rel (k + 4) u' v') v v1) u v1 := by
  refine qs_el (Q := fun u v => wpX_descend (fun r u' => wpY_descend (fun r' v' => r' = r ∧ i_Rel (k + 4) u' v') v v1) u v1) I ?_
  intro P V C F al mu hsu sP sL sH st rP rV so bl de hlr lb rc fr ol rf dm ts lv aff afb anb aru atc atr ald alt gh gs gp gv gd gl yof yfa ype ybe ybl ypa yls ysp yus yva hB hA hFc hPe hRl hRs
  obtain ⟨hP2, hP, hV1, hV, hC, hF⟩ := id hB
  have hgs := hRs.1
  subst hgs
  unfold wpX_descend wpY_descend
  dsimp only
  refine br_c (fun h3 => ?_) (fun h3 => br_f h3 ⟨rfl, qs_mk hB hA hFc hPe hRl hRs⟩)
  obtain ⟨rp, rv, a1, a2, a3, a4, a5, a6, a7, a8, a9, b1, b2, b3, dd, b4, b5, b6, b7⟩ := qs_Rs3 hRs h3
  subst a4 a5 a6 a7 b4 b5
  have hdP := qs_nd_le hP b6 dd (Nat.le_refl _)
  have hd6 := hdP.1
  have hreg : qs_reg P V (qs_wo al rp rv) := qs_wo_reg hP hA.1 a1 a3 hV
  have hne : qs_ne P (qs_wo al rp rv) := qs_wo_ne hP (qs_A_ne hA) a1 (by omega)
  obtain ⟨hn, hr, _⟩ := qs_nd_box hP hne hreg b6 dd (Nat.le_refl _)
  have cd : (nI dd).toNatClampNeg = dd := nI_clamp (by omega)
  refine ⟨pk_in dd 8 (by omega), nm_r (e' := anb dd) (by rw [cd]) ?_⟩
  refine qs_lfX (by omega) (fun r hlr1 => br_c (fun hr5 => ?_) (fun hr5 => ?_))
  · refine qs_fo hP rfl (fun r2 hfo => ?_)
    rcases hfo with ⟨e, hcl⟩ | ⟨p, hp, e, hop, hcl⟩
    · subst e
      refine br_t (by decide) (br_t h3 ?_)
      refine qs_ynode hP hA a1 (by omega) b6 (fun ysp hsp => ?_)
      refine qs_lfY hP (by omega) (qs_Fc_f hFc) b3 hsp hn hr (fun r' hlr2 => br_t ((qs_LF_u hlr2 hlr1).trans hr5) ?_)
      exact qs_ysplit hP hsp (fun _ => br_t (by decide) ⟨rfl, qs_mk hB hA hFc hPe hRl hRs⟩) (fun p hp hno _ => absurd (hcl p hp) hno)
    · subst e
      have hdp : dd ≤ p := by
        apply Classical.byContradiction
        intro z
        exact hop (hdP.2 p (by omega))
      refine br_f (nI_pos (by omega)) ?_
      rcases qs_vl hV v1 with hb | ⟨w, hw, rfl⟩
      · refine qs_vlu0 rfl hb (br_t rfl (br_t h3 ?_))
        refine qs_ynode hP hA a1 (by omega) b6 (fun ysp hsp => ?_)
        refine qs_lfY hP (by omega) (qs_Fc_f hFc) b3 hsp hn hr (fun r' hlr2 => br_t ((qs_LF_u hlr2 hlr1).trans hr5) ?_)
        refine qs_ysplit hP hsp (fun hall => absurd (hall p hp) hop) (fun p' hp' hno hcl' => br_f (nI_pos (by omega)) (br_f (nI_ge (b := 6) (by omega) (by omega)) ?_))
        refine br_c (fun _ => ⟨rfl, qs_mk hB hA hFc hPe hRl hRs⟩) (fun hn0 => ?_)
        rcases hb with hb | hb
        · exact absurd hb hn0
        · exact br_f (Int32.not_le.mpr hb) ⟨rfl, qs_mk hB hA hFc hPe hRl hRs⟩
      · refine qs_vlu1 hV rfl hw (br_f (by decide) (pk_lt (dd + 1) 8 (fun _ => ?_) (fun z => absurd z (by omega)) (hx := nI_1 dd)))
        refine qs_ct (by omega) (br_c (fun hz => ?_) (fun hz => ?_))
        · refine br_t h3 (qs_ynode hP hA a1 (by omega) b6 (fun ysp hsp => ?_))
          refine qs_lfY hP (by omega) (qs_Fc_f hFc) b3 hsp hn hr (fun r' hlr2 => br_t ((qs_LF_u hlr2 hlr1).trans hr5) ?_)
          refine qs_ysplit hP hsp (fun hall => absurd (hall p hp) hop) (fun p' hp' hno hcl' => br_f (nI_pos (by omega)) (br_f (nI_ge (b := 6) (by omega) (by omega)) (br_f (nI_pos (by omega)) (br_t (nI_le hw (by omega)) ?_))))
          have ep := qs_fou hop hcl hno hcl'
          subst ep
          refine ⟨qs_i5 (by omega) (by omega), ?_⟩
          dsimp only
          rw [qs_i5c (by omega) (by omega), hsp p' w hp (by omega)]
          exact br_t hz ⟨rfl, qs_mk hB hA hFc hPe hRl hRs⟩
        · have hbit : bt (anb dd) (p * 5 + w) = true := by
            cases e : bt (anb dd) (p * 5 + w)
            · exact absurd (qs_010.mpr e) hz
            · rfl
          refine nm_r (nI_1 dd) (qs_woX ⟨pk_in (dd + 1) 8 (by omega), nm_r (e' := upd anb (dd + 1) (qs_wo (anb dd) p w)) (by rw [nI_clamp (by omega)]) ?_⟩)
          refine br_t h3 (qs_ynode hP hA a1 (by omega) b6 (fun ysp hsp => ?_))
          refine qs_lfY hP (by omega) (qs_Fc_f hFc) b3 hsp hn hr (fun r' hlr2 => br_t ((qs_LF_u hlr2 hlr1).trans hr5) ?_)
          refine qs_ysplit hP hsp (fun hall => absurd (hall p hp) hop) (fun p' hp' hno hcl' => br_f (nI_pos (by omega)) (br_f (nI_ge (b := 6) (by omega) (by omega)) (br_f (nI_pos (by omega)) (br_t (nI_le hw (by omega)) ?_))))
          have ep := qs_fou hop hcl hno hcl'
          subst ep
          refine ⟨qs_i5 (by omega) (by omega), ?_⟩
          dsimp only
          rw [qs_i5c (by omega) (by omega), hsp p' w hp (by omega)]
          refine br_f hz ⟨pk_in dd 6 (by omega), nm_r (e' := upd ypa dd (nI w)) (by rw [cd]) (nm_r (nI_1 dd) ⟨rfl, ?_⟩)⟩
          exact qs_mk hB hA hFc hPe hRl ⟨rfl, Or.inr ⟨rp, rv, a1, a2, a3, rfl, rfl, rfl, rfl, a8, Or.inr (Or.inr ⟨h3, a9, b1, b2, b3, dd + 1, rfl, rfl, qs_nd_up b6 hp (by omega) hop hcl hbit, Or.inl ⟨rfl, rfl⟩⟩)⟩⟩
  · refine br_t h3 (qs_ynode hP hA a1 (by omega) b6 (fun ysp hsp => ?_))
    exact qs_lfY hP (by omega) (qs_Fc_f hFc) b3 hsp hn hr (fun r' hlr2 => br_f (fun z => hr5 ((qs_LF_u hlr1 hlr2).trans z)) ⟨rfl, qs_mk hB hA hFc hPe hRl hRs⟩)
end
section
/-! ===== explain ===== -/
def qs_off (k : Int32) (f : Nat) : Int32 := k &&& (((1 : Int32) <<< (nI f &&& 31)) ^^^ (-1))
noncomputable def qs_fb1 (P F : Nat) (fb : Nat → Int32) (top k : Int32) (f : Nat) : Int32 := @ite _ (bt k f = true ∧ qs_no P F (qs_off k f) fb top) (Classical.propDecidable _) (qs_off k f) k
noncomputable def qs_fbl (P F : Nat) (fb : Nat → Int32) (top : Int32) : Nat → Int32 → Int32
  | 0 => fun k => k
  | n + 1 => fun k => qs_fbl P F fb top n (qs_fb1 P F fb top k n)
theorem qs_offb {k : Int32} {f g : Nat} (hf : f < 32) (hg : g < 32) : bt (qs_off k f) g = (bt k g && !decide (g = f)) := by
  unfold qs_off
  rw [qs_an _ _ hg, qs_1b f hf g hg]
theorem qs_offk {F : Nat} {k : Int32} {f : Nat} (h : qs_kb F k) : qs_kb F (qs_off k f) := by
  intro g hg
  unfold qs_off
  rw [b_and, h g hg, Bool.false_and]
theorem qs_fb1y {P F : Nat} {fb : Nat → Int32} {top k : Int32} {f : Nat} (h : bt k f = true) (h' : qs_no P F (qs_off k f) fb top) : qs_fb1 P F fb top k f = qs_off k f := if_pos ⟨h, h'⟩
theorem qs_fb1n {P F : Nat} {fb : Nat → Int32} {top k : Int32} {f : Nat} (h : bt k f = true → ¬ qs_no P F (qs_off k f) fb top) : qs_fb1 P F fb top k f = k := if_neg fun z => h z.1 z.2
theorem qs_fbl_ok {P F : Nat} {fb : Nat → Int32} {top : Int32} : ∀ n k, qs_kb F k → qs_no P F k fb top → qs_kb F (qs_fbl P F fb top n k) ∧ qs_no P F (qs_fbl P F fb top n k) fb top
  | 0, k, h1, h2 => ⟨h1, h2⟩
  | n + 1, k, h1, h2 => by
    show qs_kb F (qs_fbl P F fb top n (qs_fb1 P F fb top k n)) ∧ qs_no P F (qs_fbl P F fb top n (qs_fb1 P F fb top k n)) fb top
    by_cases h : bt k n = true ∧ qs_no P F (qs_off k n) fb top
    · rw [qs_fb1y h.1 h.2]
      exact qs_fbl_ok n _ (qs_offk h1) h.2
    · rw [qs_fb1n fun z z' => h ⟨z, z'⟩]
      exact qs_fbl_ok n k h1 h2
section
variable {fP fV fC al fF mu hsu sP sL sH st rP rV so bl de hlr lb rc fr ol rf dm ts lv : Int32} {aff afb anb aru atc atr ald alt : Nat → Int32} {gP gV gC gF gh gs gp gv gd gl : Int32} {yof yfa ype ybe ybl ypa yls ysp yus yva : Nat → Int32} {P V C F : Nat}
theorem qs_fbX {post : Int32 → SX → Prop} {top K : Int32} (hB : qs_B P V C F) (hreg : qs_reg P V top) (hne : qs_ne P top) (h31 : ∀ f, f < F → bt (afb f) 31 = false)
    (h : ∀ rc fr ol rf dm ts lv aru atc atr ald alt, qs_Rl P F rf afb rc fr aru → post K (nI P, nI V, fC, al, nI F, mu, hsu, sP, sL, sH, st, rP, rV, so, bl, de, hlr, lb, rc, fr, ol, rf, dm, ts, lv, aff, afb, anb, aru, atc, atr, ald, alt)) :
    ∀ m n k rc fr ol rf dm ts lv aru atc atr ald alt, m < n → m ≤ F → qs_fbl P F afb top m k = K → qs_kb F k → qs_Rl P F rf afb rc fr aru → wX_findBlamed_12 post top n k (nI m - 1) (nI P) (nI V) fC al (nI F) mu hsu sP sL sH st rP rV so bl de hlr lb rc fr ol rf dm ts lv aff afb anb aru atc atr ald alt := by
  obtain ⟨hP2, hP, hV1, hV, hC, hF⟩ := id hB
  intro m
  induction m with
  | zero =>
    intro n k rc fr ol rf dm ts lv aru atc atr ald alt h1 h2 e hkb hRl
    obtain ⟨n', rfl⟩ : ∃ n', n = n' + 1 := ⟨n - 1, by omega⟩
    have e' : k = K := e
    subst e'
    exact br_t (by decide) (h _ _ _ _ _ _ _ _ _ _ _ _ hRl)
  | succ m ih =>
    intro n k rc fr ol rf dm ts lv aru atc atr ald alt h1 h2 e hkb hRl
    obtain ⟨n', rfl⟩ : ∃ n', n = n' + 1 := ⟨n - 1, by omega⟩
    have e' : qs_fbl P F afb top m (qs_fb1 P F afb top k m) = K := e
    rw [nI_pred]
    refine br_f (nI_pos (by omega)) (nm_e (ek_if (qs_and1 (by omega)) (fun hz => ?_) (fun hz => ?_)))
    · refine nm_r (qs_pm _) ?_
      rw [qs_fb1n fun z => by rw [hz] at z; exact absurd z (by decide)] at e'
      exact ih n' k rc fr ol rf dm ts lv aru atc atr ald alt (by omega) (by omega) e' hkb hRl
    · have hbk : bt k m = true := by
        cases eb : bt k m
        · exact absurd eb hz
        · rfl
      refine qs_search hP2 hP hV (by omega) hreg hne h31 hRl.1 (fun rc fr ol aru dm ts lv atc atr ald alt g1 g2 g3 g4 g5 => ?_) (fun rc fr ol aru dm ts lv atc atr ald alt g1 g2 => ?_)
      · refine br_f (by decide) (nm_r (qs_pm _) ?_)
        rw [qs_fb1n fun _ z => z ⟨_, g2.1⟩] at e'
        exact ih n' k _ _ _ _ _ _ _ _ _ _ _ _ (by omega) (by omega) e' hkb ⟨g1, qs_offk hkb⟩
      · refine br_t rfl (nm_e (nm_r (qs_pm _) ?_))
        rw [qs_fb1y hbk g2] at e'
        exact ih n' _ _ _ _ _ _ _ _ _ _ _ _ _ (by omega) (by omega) e' (qs_offk hkb) ⟨g1, qs_offk hkb⟩
theorem qs_fbY {post : Int32 → SY → Prop} {top K : Int32} (hP : P ≤ 6) (hF : F ≤ 20) (hsp : qs_sp P ysp top) (hfa : ∀ f, f < F → qs_fact P (afb f) yfa f)
    (h : ∀ yus yva, (∀ f, f < F → yus f = qs_01 (bt K f)) → ∃ n83, wY_explain_83 post (nI P) gV gC (nI F) gh gs gp gv gd gl n83 0 yof yfa ype ybe ybl ypa yls ysp yus yva) :
    ∀ m n k yus yva, m < n → m ≤ F → qs_fbl P F afb top m k = K → (∀ f, f < F → yus f = qs_01 (bt k f)) → wY_explain_41 post n (nI m - 1) (nI P) gV gC (nI F) gh gs gp gv gd gl yof yfa ype ybe ybl ypa yls ysp yus yva := by
  intro m
  induction m with
  | zero =>
    intro n k yus yva h1 h2 e hus
    obtain ⟨n', rfl⟩ : ∃ n', n = n' + 1 := ⟨n - 1, by omega⟩
    have e' : k = K := e
    subst e'
    exact br_t (by decide) (h yus yva hus)
  | succ m ih =>
    intro n k yus yva h1 h2 e hus
    obtain ⟨n', rfl⟩ : ∃ n', n = n' + 1 := ⟨n - 1, by omega⟩
    have e' : qs_fbl P F afb top m (qs_fb1 P F afb top k m) = K := e
    have cm : (nI m).toNatClampNeg = m := nI_clamp (by omega)
    rw [nI_pred]
    refine br_f (nI_pos (by omega)) ⟨pk_in m 20 (by omega), ?_⟩
    rw [cm, hus m (by omega)]
    refine br_c (fun hz => ?_) (fun hz => ?_)
    · refine nm_r (qs_pm _) ?_
      rw [qs_fb1n fun z => by rw [qs_010.mp hz] at z; exact absurd z (by decide)] at e'
      exact ih n' k yus yva (by omega) (by omega) e' hus
    · have hbk : bt k m = true := by
        cases eb : bt k m
        · exact absurd (qs_010.mpr eb) hz
        · rfl
      refine ⟨pk_in m 20 (by omega), nm_r (e' := upd yus m 0) rfl ?_⟩
      have hus' : ∀ f, f < F → upd yus m 0 f = qs_01 (bt (qs_off k m) f) := by
        intro f hf
        rw [qs_offb (by omega) (by omega)]
        by_cases ef : f = m
        · rw [ef, pk_us, decide_eq_true rfl, Bool.not_true, Bool.and_false]; rfl
        · rw [pk_un ef, hus f hf, decide_eq_false ef, Bool.not_false, Bool.and_true]
      refine qs_find hP hF hsp hus' hfa (fun yva b hb _ => ?_) (fun yva hno => ?_)
      · refine br_f (by decide) ⟨pk_in m 20 (by omega), nm_r (e' := upd (upd yus m 0) m 1) rfl (nm_r (qs_pm _) ?_)⟩
        rw [qs_fb1n fun _ z => z ⟨_, hb.1⟩] at e'
        refine ih n' k _ yva (by omega) (by omega) e' (fun f hf => ?_)
        by_cases ef : f = m
        · rw [ef, pk_us, hbk]; rfl
        · rw [pk_un ef, pk_un ef, hus f hf]
      · refine br_t rfl (nm_r (qs_pm _) ?_)
        rw [qs_fb1y hbk hno] at e'
        exact ih n' _ _ yva (by omega) (by omega) e' hus'
theorem qs_cfX {post : Int32 → Prop} {set : Int32} (hF : F ≤ 20) (h : post (nI (qs_cn set F))) : ∀ n f, F < n + f → f ≤ F → wX_countFacts_4 post set fP fV fC al (nI F) mu hsu sP sL sH st rP rV so bl de hlr lb rc fr ol rf dm ts lv aff afb anb aru atc atr ald alt n (nI (qs_cn set f)) (nI f) := by
  intro n
  induction n with
  | zero => intro f h1 h2; omega
  | succ n ih =>
    intro f h1 h2
    refine pk_le F f (fun hle => ?_) (fun hlt => ?_)
    · have e : f = F := by omega
      subst e
      exact h
    · refine nm_r (e' := nI (qs_cn set (f + 1))) ?_ (nm_r (nI_1 f) (ih (f + 1) (by omega) (by omega)))
      rw [qs_bitI set (by omega)]
      show nI (qs_cn set f) + qs_01 (bt set f) = nI (qs_cn set f + (bt set f).toNat)
      cases bt set f
      · exact nI_add _ 0
      · exact nI_add _ 1
theorem qs_ex45 {post : Int32 → SX → Prop} {x : Int32} (hF : F ≤ 20) (h : post (nI (qs_cn bl F)) (fP, fV, fC, al, nI F, mu, hsu, sP, sL, sH, st, rP, rV, so, bl, 0, 0, 0, rc, fr, ol, rf, dm, ts, lv, aff, afb, upd anb 0 x, aru, atc, atr, ald, alt)) : wX_explain_45 post x fP fV fC al (nI F) mu hsu sP sL sH st rP rV so bl de hlr lb rc fr ol rf dm ts lv aff afb anb aru atc atr ald alt := by
  unfold wX_explain_45
  refine nm_e ?_
  show wpX_countFacts (fun r => post r (fP, fV, fC, al, nI F, mu, hsu, sP, sL, sH, st, rP, rV, so, bl, 0, 0, 0, rc, fr, ol, rf, dm, ts, lv, aff, afb, upd anb 0 x, aru, atc, atr, ald, alt)) (fP, fV, fC, al, nI F, mu, hsu, sP, sL, sH, st, rP, rV, so, bl, 0, 0, 0, rc, fr, ol, rf, dm, ts, lv, aff, afb, upd anb 0 x, aru, atc, atr, ald, alt) bl
  exact ⟨F + 1, qs_cfX (post := fun r => post r (fP, fV, fC, al, nI F, mu, hsu, sP, sL, sH, st, rP, rV, so, bl, 0, 0, 0, rc, fr, ol, rf, dm, ts, lv, aff, afb, upd anb 0 x, aru, atc, atr, ald, alt)) hF h (F + 1) 0 (by omega) (by omega)⟩
theorem qs_ex128 {post : Int32 → SY → Prop} {K : Int32} (hF : F ≤ 20) (hbl : ∀ f, f < F → ybl f = qs_01 (bt K f)) (h : post (nI (qs_cn K F)) (gP, gV, gC, nI F, gh, gs, gp, gv, gd, gl, yof, yfa, ype, ybe, ybl, ypa, yls, ysp, yus, yva)) : ∀ n f, F < n + f → f ≤ F → wY_explain_128 post gP gV gC (nI F) gh gs gp gv gd gl yof yfa ype ybe ybl ypa yls ysp yus yva n (nI (qs_cn K f)) (nI f) := by
  intro n
  induction n with
  | zero => intro f h1 h2; omega
  | succ n ih =>
    intro f h1 h2
    refine pk_le F f (fun hle => ?_) (fun hlt => ?_)
    · have e : f = F := by omega
      subst e
      exact h
    · refine ⟨pk_in f 20 (by omega), ?_⟩
      rw [nI_clamp (by omega), hbl f hlt]
      have ih' := ih (f + 1) (by omega) (by omega)
      have hs : qs_cn K (f + 1) = qs_cn K f + (bt K f).toNat := rfl
      rw [hs] at ih'
      cases e : bt K f
      · rw [e] at ih'
        exact br_t rfl (nm_r (nI_add _ 0) (nm_r (nI_1 f) ih'))
      · rw [e] at ih'
        exact br_f (by decide) (nm_r (nI_1 _) (nm_r (nI_1 f) ih'))
theorem qs_ex109 {post : Int32 → SY → Prop} {K : Int32} (hF : F ≤ 20) (hbl : ∀ f, f < F → ybl f = qs_01 (bt K f)) (h : post (nI (qs_cn K F)) (gP, gV, gC, nI F, gh, 3, gp, gv, 0, 0, yof, yfa, ype, ybe, ybl, ypa, yls, ysp, yus, yva)) : wY_explain_109 post gP gV gC (nI F) gh gs gp gv gd gl yof yfa ype ybe ybl ypa yls ysp yus yva :=
  ⟨F + 1, qs_ex128 hF hbl h (F + 1) 0 (by omega) (by omega)⟩
theorem qs_ex83 {post : Int32 → SY → Prop} {K : Int32} (hF : F ≤ 20) (hus : ∀ f, f < F → yus f = qs_01 (bt K f)) (h : ∀ ybl, (∀ f, f < F → ybl f = qs_01 (bt K f)) → post (nI (qs_cn K F)) (gP, gV, gC, nI F, gh, 3, gp, gv, 0, 0, yof, yfa, ype, ybe, ybl, ypa, yls, ysp, yus, yva)) :
    ∀ n f ybl, F < n + f → f ≤ F → (∀ g, g < f → ybl g = qs_01 (bt K g)) → wY_explain_83 post gP gV gC (nI F) gh gs gp gv gd gl n (nI f) yof yfa ype ybe ybl ypa yls ysp yus yva := by
  intro n
  induction n with
  | zero => intro f ybl h1 h2; omega
  | succ n ih =>
    intro f ybl h1 h2 hs
    refine pk_le F f (fun hle => ?_) (fun hlt => ?_)
    · have hbl : ∀ g, g < F → ybl g = qs_01 (bt K g) := fun g hg => hs g (by omega)
      exact qs_ex109 hF hbl (h ybl hbl)
    · refine ⟨pk_in f 20 (by omega), pk_in f 20 (by omega), nm_r (e' := upd ybl f (qs_01 (bt K f))) (by rw [nI_clamp (by omega), hus f hlt, qs_nar01]) (nm_r (nI_1 f) (ih (f + 1) _ (by omega) (by omega) (fun g hg => ?_)))⟩
      by_cases e : g = f
      · rw [e, pk_us]
      · rw [pk_un e]; exact hs g (by omega)
end
theorem i_vc_explain {k : Nat} {u : SX} {v : SY} (I : i_Rel k u v) (hk : k + 4 ≤ 2051) : wpX_explain (fun r u' => wpY_explain (fun r' v' => r' = r ∧ i_Rel (k + 4) u' v') v) u := by
  refine qs_el (Q := fun u v => wpX_explain (fun r u' => wpY_explain (fun r' v' => r' = r ∧ i_Rel (k + 4) u' v') v) u) I ?_
  intro P V C F al mu hsu sP sL sH st rP rV so bl de hlr lb rc fr ol rf dm ts lv aff afb anb aru atc atr ald alt gh gs gp gv gd gl yof yfa ype ybe ybl ypa yls ysp yus yva hB hA hFc hPe hRl hRs
  obtain ⟨hP2, hP, hV1, hV, hC, hF⟩ := id hB
  have hgs := hRs.1
  subst hgs
  unfold wpX_explain wpY_explain
  dsimp only
  refine br_c (fun h0 => br_t h0 ⟨rfl, qs_mk hB hA hFc hPe hRl hRs⟩) (fun h0 => br_c (fun h1 => br_f h0 (br_t h1 ⟨rfl, qs_mk hB hA hFc hPe hRl hRs⟩)) (fun h1 => ?_))
  rcases id hRs.2 with z | ⟨rp, rv, hrp, hr1, hr2, e1, e2, e3, e4, hbt, hcase⟩
  · exact absurd z h0
  · subst e1 e2 e3 e4
    have hreg : qs_reg P V (qs_wo al rp rv) := qs_wo_reg hP hA.1 hrp hr2 hV
    have hne : qs_ne P (qs_wo al rp rv) := qs_wo_ne hP (qs_A_ne hA) hrp (by omega)
    refine qs_topX ?_
    rcases hcase with ⟨hs1, _⟩ | ⟨hs1, hno⟩ | ⟨hs1, hno, b1, b2, b3, dd, b4, b5, b6, b7⟩
    · exact absurd hs1 h1
    · subst hs1
      obtain ⟨hk1, hk2⟩ := qs_fbl_ok (P := P) (fb := afb) (top := qs_wo al rp rv) F (qs_act F mu) (qs_actk (by omega)) hno
      refine br_t rfl ?_
      unfold wpX_findBlamed
      dsimp only
      refine qs_actX (nm_e ⟨F + 1, ?_⟩)
      refine qs_fbX (K := qs_fbl P F afb (qs_wo al rp rv) F (qs_act F mu)) hB hreg hne (qs_Fc_31 hFc) (fun rc fr ol rf dm ts lv aru atc atr ald alt hRl' => ?_) F (F + 1) (qs_act F mu) _ _ _ _ _ _ _ _ _ _ _ _ (by omega) (Nat.le_refl _) rfl (qs_actk (by omega)) hRl
      refine qs_ex45 (by omega) ?_
      refine br_f (by decide) (br_f (by decide) (br_t rfl ?_))
      refine qs_ytop hP hA hrp (by omega) (fun ysp hsp => qs_yuse (by omega) hFc (fun yus hus => nm_e ⟨F + 1, ?_⟩))
      refine qs_fbY (K := qs_fbl P F afb (qs_wo al rp rv) F (qs_act F mu)) hP (by omega) hsp (qs_Fc_f hFc) (fun yus yva hus' => ⟨F + 1, ?_⟩) F (F + 1) (qs_act F mu) yus yva (by omega) (Nat.le_refl _) rfl hus
      refine qs_ex83 (by omega) hus' (fun ybl hbl => ⟨rfl, ?_⟩) (F + 1) 0 ybl (by omega) (by omega) (fun g hg => by omega)
      exact qs_mk hB hA hFc hPe hRl' ⟨rfl, Or.inr ⟨rp, rv, hrp, hr1, hr2, rfl, rfl, rfl, rfl, hbt, Or.inr (Or.inr ⟨rfl, hno, hk1, hk2, hbl, 0, rfl, rfl, ⟨pk_us, fun d hd => absurd hd (Nat.not_lt_zero d)⟩, Or.inl ⟨rfl, rfl⟩⟩)⟩⟩
    · subst hs1
      refine br_f (by decide) (qs_ex45 (by omega) ?_)
      refine br_f (by decide) (br_f (by decide) (br_f (by decide) (qs_ex109 (by omega) b3 ⟨rfl, ?_⟩)))
      exact qs_mk hB hA hFc hPe hRl ⟨rfl, Or.inr ⟨rp, rv, hrp, hr1, hr2, rfl, rfl, rfl, rfl, hbt, Or.inr (Or.inr ⟨rfl, hno, b1, b2, b3, 0, rfl, rfl, ⟨pk_us, fun d hd => absurd hd (Nat.not_lt_zero d)⟩, Or.inl ⟨rfl, rfl⟩⟩)⟩⟩
end
section
/-! ===== learn: the pure steps ===== -/
def qs_iv (P V F : Nat) (bl : Int32) (fb : Nat → Int32) (al x : Int32) : Prop := qs_reg P V x ∧ qs_ne P x ∧ qs_no P F bl fb x ∧ qs_sub x al
section
variable {P V F : Nat} {bl al : Int32} {fb : Nat → Int32}
theorem qs_wdy {x : Int32} {p v : Nat} (h : qs_wc P F bl fb al x p v) : qs_wd P F bl fb al x p v = x ||| qs_b p v := if_pos h
theorem qs_wdn {x : Int32} {p v : Nat} (h : ¬ qs_wc P F bl fb al x p v) : qs_wd P F bl fb al x p v = x := if_neg h
theorem qs_orb {x : Int32} {p v i : Nat} (hp : p * 5 + v < 32) (hi : i < 32) : bt (x ||| qs_b p v) i = true ↔ bt x i = true ∨ i = p * 5 + v := by
  rw [qs_ot, qs_bb hp hi, decide_eq_true_iff]
theorem qs_no_or {x : Int32} {p v : Nat} (hP : P ≤ 6) (hp : p < P) (hv : v < 5) (h1 : qs_no P F bl fb x) (h2 : qs_no P F bl fb (qs_wo x p v)) : qs_no P F bl fb (x ||| qs_b p v) := fun ⟨a, ha⟩ => by
  have hin : ∀ q, q < P → bt x (q * 5 + a q) = true ∨ q * 5 + a q = p * 5 + v := fun q hq => by
    have := ha.1 q hq
    exact (qs_orb (by omega) (by omega)).mp (ha.2.1 q hq)
  by_cases e : a p = v
  · refine h2 ⟨a, ha.1, fun q hq => ?_, ha.2.2⟩
    have h5 := ha.1 q hq
    refine (qs_wob (by omega) hv (by omega) h5).mpr ?_
    by_cases eq : q = p
    · exact Or.inl ⟨eq, by rw [eq]; exact e⟩
    · rcases hin q hq with z | z
      · exact Or.inr ⟨eq, z⟩
      · omega
  · refine h1 ⟨a, ha.1, fun q hq => ?_, ha.2.2⟩
    rcases hin q hq with z | z
    · exact z
    · have h5 := ha.1 q hq
      have eq : q = p := by omega
      subst eq
      omega
theorem qs_no_wo {x : Int32} {p v : Nat} (hP : P ≤ 6) (hp : p < P) (hv : v < 5) (h : qs_no P F bl fb (x ||| qs_b p v)) : qs_no P F bl fb (qs_wo x p v) := fun ⟨a, ha⟩ =>
  h ⟨a, qs_sol_b (fun q w hq hw hb => by
    refine (qs_orb (by omega) (by omega)).mpr ?_
    rcases (qs_wob (by omega) hv (by omega) hw).mp hb with z | z
    · exact Or.inr (by omega)
    · exact Or.inl z.2) ha⟩
theorem qs_wd_iv {x : Int32} {p v : Nat} (hP : P ≤ 6) (hV : V ≤ 4) (hp : p < P) (hv : v ≤ V) (h : qs_iv P V F bl fb al x) : qs_iv P V F bl fb al (qs_wd P F bl fb al x p v) := by
  by_cases hc : qs_wc P F bl fb al x p v
  · rw [qs_wdy hc]
    refine ⟨fun i hi hb => ?_, qs_ne_m hP (fun i hi hb => qs_ot.mpr (Or.inl hb)) h.2.1, qs_no_or hP hp (by omega) h.2.2.1 hc.2.2, fun i hi hb => ?_⟩
    · rcases (qs_orb (by omega) hi).mp hb with z | z
      · exact h.1 i hi z
      · omega
    · rcases (qs_orb (by omega) hi).mp hb with z | z
      · exact h.2.2.2 i hi z
      · rw [z]; exact hc.1
  · rw [qs_wdn hc]; exact h
theorem qs_wd_o {x : Int32} {p v i : Nat} (hp : p * 5 + v < 32) (hi : i < 32) (hn : i ≠ p * 5 + v) : bt (qs_wd P F bl fb al x p v) i = bt x i := by
  by_cases hc : qs_wc P F bl fb al x p v
  · rw [qs_wdy hc, b_or, qs_bb hp hi, decide_eq_false hn, Bool.or_false]
  · rw [qs_wdn hc]
theorem qs_lv_iv {x : Int32} {p : Nat} (hP : P ≤ 6) (hV : V ≤ 4) (hp : p < P) (h : qs_iv P V F bl fb al x) : ∀ v, v ≤ V + 1 → qs_iv P V F bl fb al (qs_lv P F bl fb al p x v)
  | 0, _ => h
  | v + 1, hv => qs_wd_iv hP hV hp (by omega) (qs_lv_iv hP hV hp h v (by omega))
theorem qs_lv_o {x : Int32} {p i : Nat} (hp : p < 6) (hi : i < 32) (hn : ¬ (p * 5 ≤ i ∧ i < p * 5 + 5)) : ∀ v, v ≤ 5 → bt (qs_lv P F bl fb al p x v) i = bt x i
  | 0, _ => rfl
  | v + 1, hv => (qs_wd_o (by omega) hi (by omega)).trans (qs_lv_o hp hi hn v (by omega))
theorem qs_lp_iv {x : Int32} (hP : P ≤ 6) (hV : V ≤ 4) (h : qs_iv P V F bl fb al x) : ∀ p, p ≤ P → qs_iv P V F bl fb al (qs_lp P V F bl fb al x p)
  | 0, _ => h
  | p + 1, hp => qs_lv_iv hP hV (by omega) (qs_lp_iv hP hV h p (by omega)) (V + 1) (Nat.le_refl _)
theorem qs_lp_o {x : Int32} {q w : Nat} (hV : V ≤ 4) (hw : w < 5) {p : Nat} (hq : q < p) : ∀ m, p + m ≤ 6 → bt (qs_lp P V F bl fb al x (p + m)) (q * 5 + w) = bt (qs_lp P V F bl fb al x p) (q * 5 + w)
  | 0, _ => rfl
  | m + 1, hm => (qs_lv_o (p := p + m) (by omega) (by omega) (by omega) (V + 1) (by omega)).trans (qs_lp_o hV hw hq m (by omega))
/-- the flag of package p after its values below v -/
def qs_tg (al x : Int32) (p : Nat) : Nat → Bool
  | 0 => false
  | v + 1 => qs_tg al x p v || (bt al (p * 5 + v) && !bt x (p * 5 + v))
theorem qs_tg_c {x y : Int32} {p : Nat} : ∀ v, (∀ w, w < v → bt x (p * 5 + w) = bt y (p * 5 + w)) → qs_tg al x p v = qs_tg al y p v
  | 0, _ => rfl
  | v + 1, h => by
    show (qs_tg al x p v || (bt al (p * 5 + v) && !bt x (p * 5 + v))) = (qs_tg al y p v || (bt al (p * 5 + v) && !bt y (p * 5 + v)))
    rw [qs_tg_c v (fun w hw => h w (by omega)), h v (by omega)]
theorem qs_tg_f {x : Int32} {p : Nat} : ∀ v, qs_tg al x p v = false ↔ ∀ w, w < v → bt al (p * 5 + w) = true → bt x (p * 5 + w) = true
  | 0 => ⟨fun _ w hw => by omega, fun _ => rfl⟩
  | v + 1 => by
    show (qs_tg al x p v || (bt al (p * 5 + v) && !bt x (p * 5 + v))) = false ↔ _
    rw [Bool.or_eq_false_iff, qs_tg_f v]
    constructor
    · intro ⟨h1, h2⟩ w hw ha
      by_cases e : w = v
      · subst e
        rw [ha] at h2
        cases eb : bt x (p * 5 + w)
        · rw [eb] at h2; exact absurd h2 (by decide)
        · rfl
      · exact h1 w (by omega) ha
    · intro h
      refine ⟨fun w hw => h w (by omega), ?_⟩
      cases ea : bt al (p * 5 + v)
      · rfl
      · rw [h v (by omega) ea]; rfl
/-- the terms of a box -/
def qs_tmc (x al : Int32) : Nat → Nat
  | 0 => 0
  | p + 1 => qs_tmc x al p + (if x &&& qs_g p = al &&& qs_g p then 0 else 1)
theorem qs_tmc_le (x : Int32) : ∀ p, qs_tmc x al p ≤ p
  | 0 => Nat.le_refl 0
  | p + 1 => by
    have := qs_tmc_le x p
    show qs_tmc x al p + (if x &&& qs_g p = al &&& qs_g p then 0 else 1) ≤ p + 1
    split <;> omega
theorem qs_geq {x : Int32} {p : Nat} (hP : P ≤ 6) (hV : V ≤ 4) (hp : p < P) (hal : qs_reg P V al) (hs : qs_sub x al) : x &&& qs_g p = al &&& qs_g p ↔ qs_tg al x p (V + 1) = false := by
  rw [qs_tg_f]
  constructor
  · intro e w hw ha
    have h5 : p * 5 + w < 32 := qs_lt ha
    have h1 : bt (al &&& qs_g p) (p * 5 + w) = true := qs_at.mpr ⟨ha, (qs_gt (by omega) h5).mpr (by omega)⟩
    rw [← e] at h1
    exact (qs_at.mp h1).1
  · intro h
    apply b_ext
    intro i hi
    rw [b_and, b_and]
    cases eg : bt (qs_g p) i
    · rw [Bool.and_false, Bool.and_false]
    · rw [Bool.and_true, Bool.and_true]
      have hg := (qs_gt (by omega) hi).mp eg
      cases ea : bt al i
      · refine qs_tf fun z => ?_
        rw [hs i hi z] at ea
        exact absurd ea (by decide)
      · have hv := (hal i hi ea).2
        have e : i = p * 5 + (i - p * 5) := by omega
        rw [e]
        exact h (i - p * 5) (by omega) (by rw [← e]; exact ea)
end
end
section
/-! ===== learn: both walks ===== -/
section
variable {fP fV fC al fF mu hsu sP sL sH st rP rV so bl de hlr lb rc fr ol rf dm ts lv : Int32} {aff afb anb aru atc atr ald alt : Nat → Int32} {gP gV gC gF gh gs gp gv gd gl : Int32} {yof yfa ype ybe ybl ypa yls ysp yus yva : Nat → Int32} {P V C F : Nat}
theorem qs_widen {post : Int32 → SX → Prop} {x : Int32} {p v : Nat} (hB : qs_B P V C F) (h31 : ∀ f, f < F → bt (afb f) 31 = false) (hkb : qs_kb F bl) (hp : p < P) (hv : v ≤ V) (hx : qs_iv P V F bl afb al x) (hRl : qs_Rl P F rf afb rc fr aru)
    (h : ∀ rc fr ol rf dm ts lv aru atc atr ald alt, qs_Rl P F rf afb rc fr aru → post (qs_wd P F bl afb al x p v) (nI P, nI V, fC, al, nI F, mu, hsu, sP, sL, sH, st, rP, rV, so, bl, de, hlr, lb, rc, fr, ol, rf, dm, ts, lv, aff, afb, anb, aru, atc, atr, ald, alt)) : wpX_widen post (nI P, nI V, fC, al, nI F, mu, hsu, sP, sL, sH, st, rP, rV, so, bl, de, hlr, lb, rc, fr, ol, rf, dm, ts, lv, aff, afb, anb, aru, atc, atr, ald, alt) x (nI p) (nI v) := by
  obtain ⟨hP2, hP, hV1, hV, hC, hF⟩ := id hB
  unfold wpX_widen
  dsimp only
  refine nm_r (e' := qs_b p v) (by rw [qs_5v]; rfl) ?_
  have hsame : ¬ qs_wc P F bl afb al x p v → post x (nI P, nI V, fC, al, nI F, mu, hsu, sP, sL, sH, st, rP, rV, so, bl, de, hlr, lb, rc, fr, ol, rf, dm, ts, lv, aff, afb, anb, aru, atc, atr, ald, alt) := fun hc => by
    have h' := h _ _ ol _ dm ts lv _ atc atr ald alt hRl
    rw [qs_wdn hc] at h'
    exact h'
  refine ek_if (qs_bt0 (by omega)) (fun hz => ?_) (fun hz => ?_)
  · exact hsame fun c => absurd (hz.symm.trans c.1) (by decide)
  · refine ek_if (qs_bt0 (by omega)) (fun hz2 => ?_) (fun hz2 => hsame fun c => hz2 c.2.1)
    refine qs_woX ?_
    refine qs_search hP2 hP hV (by omega) (qs_wo_reg hP hx.1 hp hv hV) (qs_wo_ne hP hx.2.1 hp (by omega)) h31 hRl.1 (fun rc fr ol aru dm ts lv atc atr ald alt g1 g2 g3 g4 g5 => ?_) (fun rc fr ol aru dm ts lv atc atr ald alt g1 g2 => ?_)
    · refine br_f (by decide) ?_
      have h' := h _ _ ol _ dm ts lv _ atc atr ald alt ⟨g1, hkb⟩
      rw [qs_wdn fun c => c.2.2 ⟨_, g2.1⟩] at h'
      exact h'
    · refine br_t rfl ?_
      have hb : bt al (p * 5 + v) = true := by
        cases e : bt al (p * 5 + v)
        · exact absurd e hz
        · rfl
      have h' := h _ _ ol _ dm ts lv _ atc atr ald alt ⟨g1, hkb⟩
      rw [qs_wdy ⟨hb, hz2, g2⟩] at h'
      exact h'
theorem qs_l40 {post : Int32 → SX → Prop} {J : Int32 → Int32 → Int32 → Int32 → Int32 → Int32 → Int32 → Int32 → Int32 → Int32 → Int32 → Int32 → Int32 → Int32 → Int32 → Int32 → Int32 → Int32 → Int32 → Int32 → Int32 → Int32 → Int32 → Int32 → Int32 → Int32 → Int32 → (Nat → Int32) → (Nat → Int32) → (Nat → Int32) → (Nat → Int32) → (Nat → Int32) → (Nat → Int32) → (Nat → Int32) → (Nat → Int32) → Prop} {x0 : Int32} {p : Nat} (hB : qs_B P V C F) (h31 : ∀ f, f < F → bt (afb f) 31 = false) (hkb : qs_kb F bl) (hp : p < P) (hx0 : qs_iv P V F bl afb al x0)
    (hJ : ∀ rc fr ol rf dm ts lv aru atc atr ald alt, qs_Rl P F rf afb rc fr aru → J (qs_lv P F bl afb al p x0 (V + 1)) (nI (p + 1)) (nI P) (nI V) fC al (nI F) mu hsu sP sL sH st rP rV so bl de hlr lb rc fr ol rf dm ts lv aff afb anb aru atc atr ald alt) :
    ∀ n v rc fr ol rf dm ts lv aru atc atr ald alt, V + 1 < n + v → v ≤ V + 1 → qs_Rl P F rf afb rc fr aru → wX_learn_40 post J (nI p) n (qs_lv P F bl afb al p x0 v) (nI v) (nI P) (nI V) fC al (nI F) mu hsu sP sL sH st rP rV so bl de hlr lb rc fr ol rf dm ts lv aff afb anb aru atc atr ald alt := by
  obtain ⟨hP2, hP, hV1, hV, hC, hF⟩ := id hB
  intro n
  induction n with
  | zero => intro v rc fr ol rf dm ts lv aru atc atr ald alt h1 h2; omega
  | succ n ih =>
    intro v rc fr ol rf dm ts lv aru atc atr ald alt h1 h2 hRl
    refine pk_lt V v (fun hlt => ?_) (fun hle => ?_)
    · have e : v = V + 1 := by omega
      subst e
      exact nm_r (nI_1 p) (hJ _ _ _ _ _ _ _ _ _ _ _ _ hRl)
    · refine qs_widen hB h31 hkb hp hle (qs_lv_iv hP hV hp hx0 v (by omega)) hRl (fun rc fr ol rf dm ts lv aru atc atr ald alt hRl' => ?_)
      exact nm_r (nI_1 v) (ih (v + 1) _ _ _ _ _ _ _ _ _ _ _ _ (by omega) (by omega) hRl')
theorem qs_l30 {post : Int32 → SX → Prop} {x0 : Int32} (hB : qs_B P V C F) (h31 : ∀ f, f < F → bt (afb f) 31 = false) (hkb : qs_kb F bl) (hx0 : qs_iv P V F bl afb al x0)
    (h : ∀ rc fr ol rf dm ts lv aru atc atr ald alt, qs_Rl P F rf afb rc fr aru → wX_learn_78 post (nI P) (nI V) fC al (nI F) mu hsu sP sL sH st rP rV so bl de 1 (qs_lp P V F bl afb al x0 P) rc fr ol rf dm ts lv aff afb anb aru atc atr ald alt) :
    ∀ n p rc fr ol rf dm ts lv aru atc atr ald alt, P < n + p → p ≤ P → qs_Rl P F rf afb rc fr aru → wX_learn_30 post n (qs_lp P V F bl afb al x0 p) (nI p) (nI P) (nI V) fC al (nI F) mu hsu sP sL sH st rP rV so bl de hlr lb rc fr ol rf dm ts lv aff afb anb aru atc atr ald alt := by
  obtain ⟨hP2, hP, hV1, hV, hC, hF⟩ := id hB
  intro n
  induction n with
  | zero => intro p rc fr ol rf dm ts lv aru atc atr ald alt h1 h2; omega
  | succ n ih =>
    intro p rc fr ol rf dm ts lv aru atc atr ald alt h1 h2 hRl
    refine pk_le P p (fun hle => ?_) (fun hlt => ?_)
    · have e : p = P := by omega
      subst e
      exact h _ _ _ _ _ _ _ _ _ _ _ _ hRl
    · exact ⟨V + 2, qs_l40 hB h31 hkb hlt (qs_lp_iv hP hV hx0 p (by omega)) (fun rc fr ol rf dm ts lv aru atc atr ald alt hRl' => ih (p + 1) _ _ _ _ _ _ _ _ _ _ _ _ (by omega) (by omega) hRl') (V + 2) 0 _ _ _ _ _ _ _ _ _ _ _ _ (by omega) (by omega) hRl⟩
theorem qs_ctX {post : Int32 → Prop} {x : Int32} (hP : P ≤ 6) (h : post (nI (qs_tmc x al P))) : ∀ n p, P < n + p → p ≤ P → wX_countTerms_4 post x (nI P) fV fC al fF mu hsu sP sL sH st rP rV so bl de hlr lb rc fr ol rf dm ts lv aff afb anb aru atc atr ald alt n (nI (qs_tmc x al p)) (nI p) := by
  intro n
  induction n with
  | zero => intro p h1 h2; omega
  | succ n ih =>
    intro p h1 h2
    refine pk_le P p (fun hle => ?_) (fun hlt => ?_)
    · have e : p = P := by omega
      subst e
      exact h
    · refine nm_r (e' := qs_g p) (by rw [qs_5]; rfl) ?_
      have ih' := ih (p + 1) (by omega) (by omega)
      have hs : qs_tmc x al (p + 1) = qs_tmc x al p + (if x &&& qs_g p = al &&& qs_g p then 0 else 1) := rfl
      rw [hs] at ih'
      refine br_c (fun he => ?_) (fun he => ?_)
      · rw [if_pos he] at ih'
        exact nm_r (nI_1 p) ih'
      · rw [if_neg he] at ih'
        exact nm_r (nI_1 _) (nm_r (nI_1 p) ih')
theorem qs_l78 {post : Int32 → SX → Prop} (hP : P ≤ 6) (h : post (nI (qs_tmc lb al P)) (nI P, fV, fC, al, fF, mu, hsu, sP, sL, sH, st, rP, rV, so, bl, de, hlr, lb, rc, fr, ol, rf, dm, ts, lv, aff, afb, anb, aru, atc, atr, ald, alt)) : wX_learn_78 post (nI P) fV fC al fF mu hsu sP sL sH st rP rV so bl de hlr lb rc fr ol rf dm ts lv aff afb anb aru atc atr ald alt := by
  unfold wX_learn_78
  exact ⟨P + 1, qs_ctX (post := fun r => post r (nI P, fV, fC, al, fF, mu, hsu, sP, sL, sH, st, rP, rV, so, bl, de, hlr, lb, rc, fr, ol, rf, dm, ts, lv, aff, afb, anb, aru, atc, atr, ald, alt)) hP h (P + 1) 0 (by omega) (by omega)⟩
/-! the reference -/
theorem qs_y17 {post : Int32 → SY → Prop} {K : Int32} (hF : F ≤ 20) (hbl : ∀ f, f < F → ybl f = qs_01 (bt K f)) (h : ∀ yus, (∀ f, f < F → yus f = qs_01 (bt K f)) → ∃ n47, wY_learn_47 post n47 0 0 gP gV gC (nI F) gh gs gp gv gd gl yof yfa ype ybe ybl ypa yls ysp yus yva) :
    ∀ n f yus, F < n + f → f ≤ F → (∀ g, g < f → yus g = qs_01 (bt K g)) → wY_learn_17 post gP gV gC (nI F) gh gs gp gv gd gl n (nI f) yof yfa ype ybe ybl ypa yls ysp yus yva := by
  intro n
  induction n with
  | zero => intro f yus h1 h2; omega
  | succ n ih =>
    intro f yus h1 h2 hs
    refine pk_le F f (fun hle => ?_) (fun hlt => ?_)
    · exact h yus fun g hg => hs g (by omega)
    · refine ⟨pk_in f 20 (by omega), pk_in f 20 (by omega), nm_r (e' := upd yus f (qs_01 (bt K f))) (by rw [nI_clamp (by omega), hbl f hlt, qs_nar01]) (nm_r (nI_1 f) (ih (f + 1) _ (by omega) (by omega) (fun g hg => ?_)))⟩
      by_cases e : g = f
      · rw [e, pk_us]
      · rw [pk_un e]; exact hs g (by omega)
theorem qs_sp_or {x : Int32} {p v : Nat} (hP : P ≤ 6) (hp : p < P) (hv : v < 5) (h : qs_sp P ysp x) : qs_sp P (upd ysp (p * 5 + v) 1) (x ||| qs_b p v) := by
  intro q w hq hw
  by_cases e : q * 5 + w = p * 5 + v
  · rw [e, pk_us, qs_01t]
    exact (qs_orb (by omega) (by omega)).mpr (Or.inr rfl)
  · rw [pk_un e, h q w hq hw, b_or, qs_bb (by omega) (by omega), decide_eq_false e, Bool.or_false]
theorem qs_sp_bk {x : Int32} {p v : Nat} (hv : bt x (p * 5 + v) = false) (h : qs_sp P ysp x) : qs_sp P (upd (upd ysp (p * 5 + v) 1) (p * 5 + v) 0) x := by
  intro q w hq hw
  by_cases e : q * 5 + w = p * 5 + v
  · rw [e, pk_us, hv]; rfl
  · rw [pk_un e, pk_un e, h q w hq hw]
theorem qs_y60 {post : Int32 → SY → Prop} {J : Int32 → Int32 → Int32 → Int32 → Int32 → Int32 → Int32 → Int32 → Int32 → Int32 → Int32 → Int32 → (Nat → Int32) → (Nat → Int32) → (Nat → Int32) → (Nat → Int32) → (Nat → Int32) → (Nat → Int32) → (Nat → Int32) → (Nat → Int32) → (Nat → Int32) → (Nat → Int32) → Prop} {x0 : Int32} {p c : Nat} (hB : qs_B P V C F) (hA : qs_A P V al yof) (hfa : ∀ f, f < F → qs_fact P (afb f) yfa f) (hus : ∀ f, f < F → yus f = qs_01 (bt bl f)) (hp : p < P) (hx0 : qs_iv P V F bl afb al x0)
    (hJ : ∀ ysp yva, qs_sp P ysp (qs_lv P F bl afb al p x0 (V + 1)) → J (nI (c + (qs_tg al (qs_lv P F bl afb al p x0 (V + 1)) p (V + 1)).toNat)) (nI (p + 1)) (nI P) (nI V) gC (nI F) gh gs gp gv gd gl yof yfa ype ybe ybl ypa yls ysp yus yva) :
    ∀ n v ysp yva, V + 1 < n + v → v ≤ V + 1 → qs_sp P ysp (qs_lv P F bl afb al p x0 v) → wY_learn_60 post J (nI c) (nI p) n (qs_01 (qs_tg al (qs_lv P F bl afb al p x0 v) p v)) (nI v) (nI P) (nI V) gC (nI F) gh gs gp gv gd gl yof yfa ype ybe ybl ypa yls ysp yus yva := by
  obtain ⟨hP2, hP, hV1, hV, hC, hF⟩ := id hB
  intro n
  induction n with
  | zero => intro v ysp yva h1 h2; omega
  | succ n ih =>
    intro v ysp yva h1 h2 hs
    refine pk_lt V v (fun hlt => ?_) (fun hle => ?_)
    · have e : v = V + 1 := by omega
      subst e
      have hJ' := hJ ysp yva hs
      cases et : qs_tg al (qs_lv P F bl afb al p x0 (V + 1)) p (V + 1)
      · rw [et] at hJ'
        exact br_t rfl (nm_r (nI_add c 0) (nm_r (nI_1 p) hJ'))
      · rw [et] at hJ'
        exact br_f (by decide) (nm_r (nI_1 c) (nm_r (nI_1 p) hJ'))
    · have hx := qs_lv_iv hP hV hp hx0 v (by omega)
      have ih' := ih (v + 1)
      have hstep : qs_lv P F bl afb al p x0 (v + 1) = qs_wd P F bl afb al (qs_lv P F bl afb al p x0 v) p v := rfl
      rw [hstep] at ih'
      generalize hxe : qs_lv P F bl afb al p x0 v = x at *
      have htg : qs_tg al (qs_wd P F bl afb al x p v) p (v + 1) = (qs_tg al x p v || (bt al (p * 5 + v) && !bt (qs_wd P F bl afb al x p v) (p * 5 + v))) := by
        show (qs_tg al (qs_wd P F bl afb al x p v) p v || (bt al (p * 5 + v) && !bt (qs_wd P F bl afb al x p v) (p * 5 + v))) = _
        rw [qs_tg_c (y := x) v (fun w hw => qs_wd_o (by omega) (by omega) (by omega))]
      rw [htg] at ih'
      have i5 : vp_in (nI p * 5 + nI v) 30 := qs_i5 (by omega) (by omega)
      have c5 : (nI p * 5 + nI v).toNatClampNeg = p * 5 + v := qs_i5c (by omega) (by omega)
      refine qs_yal hP hA hp (by omega) (br_c (fun hz => ?_) (fun hz => ?_))
      · have ha := qs_010.mp hz
        rw [qs_wdn fun w => absurd (ha.symm.trans w.1) (by decide), ha, Bool.false_and, Bool.or_false] at ih'
        exact nm_r (nI_1 v) (ih' ysp yva (by omega) (by omega) hs)
      · have ha : bt al (p * 5 + v) = true := by
          cases e : bt al (p * 5 + v)
          · exact absurd (qs_010.mpr e) hz
          · rfl
        rw [ha, Bool.true_and] at ih'
        refine ⟨i5, ?_⟩
        rw [c5, hs p v hp (by omega)]
        refine br_c (fun hz2 => ?_) (fun hz2 => ?_)
        · have hb := qs_010.mp hz2
          refine ⟨i5, nm_r (e' := upd ysp (p * 5 + v) 1) rfl ?_⟩
          refine qs_find (D0 := x ||| qs_b p v) hP (by omega) (qs_sp_or hP hp (by omega) hs) hus hfa (fun yva b hbs _ => ?_) (fun yva hno => ?_)
          · have hnc : ¬ qs_wc P F bl afb al x p v := fun w => qs_no_or hP hp (by omega) hx.2.2.1 w.2.2 ⟨_, hbs.1⟩
            rw [qs_wdn hnc, hb, Bool.not_false, Bool.or_true] at ih'
            exact br_f (by decide) ⟨i5, nm_r (e' := upd (upd ysp (p * 5 + v) 1) (p * 5 + v) 0) rfl (nm_r (nI_1 v) (ih' _ yva (by omega) (by omega) (qs_sp_bk hb hs)))⟩
          · have hc : qs_wc P F bl afb al x p v := ⟨ha, hb, qs_no_wo hP hp (by omega) hno⟩
            have hbw : bt (x ||| qs_b p v) (p * 5 + v) = true := (qs_orb (by omega) (by omega)).mpr (Or.inr rfl)
            rw [qs_wdy hc, hbw, Bool.not_true, Bool.or_false] at ih'
            exact br_t rfl (nm_r (nI_1 v) (ih' _ yva (by omega) (by omega) (qs_sp_or hP hp (by omega) hs)))
        · have hb : bt x (p * 5 + v) = true := by
            cases e : bt x (p * 5 + v)
            · exact absurd (qs_010.mpr e) hz2
            · rfl
          rw [qs_wdn fun w => absurd (hb.symm.trans w.2.1) (by decide), hb, Bool.not_true, Bool.or_false] at ih'
          exact nm_r (nI_1 v) (ih' ysp yva (by omega) (by omega) hs)
end
end
section
/-! ===== learn: the reference's loops, and the call ===== -/
noncomputable def qs_yc (P V F : Nat) (bl : Int32) (fb : Nat → Int32) (al x : Int32) : Nat → Nat
  | 0 => 0
  | p + 1 => qs_yc P V F bl fb al x p + (qs_tg al (qs_lp P V F bl fb al x (p + 1)) p (V + 1)).toNat
theorem qs_yc_eq {P V F : Nat} {bl : Int32} {fb : Nat → Int32} {al x : Int32} (hP : P ≤ 6) (hV : V ≤ 4) (hal : qs_reg P V al) (hx : qs_iv P V F bl fb al x) : ∀ p, p ≤ P → qs_yc P V F bl fb al x p = qs_tmc (qs_lp P V F bl fb al x P) al p
  | 0, _ => rfl
  | p + 1, hp => by
    show qs_yc P V F bl fb al x p + (qs_tg al (qs_lp P V F bl fb al x (p + 1)) p (V + 1)).toNat = qs_tmc (qs_lp P V F bl fb al x P) al p + (if qs_lp P V F bl fb al x P &&& qs_g p = al &&& qs_g p then 0 else 1)
    rw [qs_yc_eq hP hV hal hx p (by omega)]
    have e : qs_tg al (qs_lp P V F bl fb al x (p + 1)) p (V + 1) = qs_tg al (qs_lp P V F bl fb al x P) p (V + 1) := by
      refine qs_tg_c (V + 1) (fun w hw => ?_)
      have := qs_lp_o (P := P) (F := F) (bl := bl) (fb := fb) (al := al) (x := x) (q := p) (w := w) hV (by omega) (p := p + 1) (by omega) (P - (p + 1)) (by omega)
      rw [show p + 1 + (P - (p + 1)) = P from by omega] at this
      exact this.symm
    rw [e]
    have hi := qs_lp_iv hP hV hx P (Nat.le_refl _)
    cases et : qs_tg al (qs_lp P V F bl fb al x P) p (V + 1)
    · rw [if_pos ((qs_geq hP hV (by omega) hal hi.2.2.2).mpr et)]; rfl
    · rw [if_neg fun z => by rw [(qs_geq hP hV (by omega) hal hi.2.2.2).mp z] at et; exact absurd et (by decide)]; rfl
section
variable {fP fV fC al fF mu hsu sP sL sH st rP rV so bl de hlr lb rc fr ol rf dm ts lv : Int32} {aff afb anb aru atc atr ald alt : Nat → Int32} {gP gV gC gF gh gs gp gv gd gl : Int32} {yof yfa ype ybe ybl ypa yls ysp yus yva : Nat → Int32} {P V C F : Nat}
theorem qs_y152 {post : Int32 → SY → Prop} {x1 : Int32} (h : ∀ yls, (∀ i, i < 30 → yls i = vp_nar .boolean (ysp i)) → post x1 (gP, gV, gC, gF, gh, gs, gp, gv, gd, 1, yof, yfa, ype, ybe, ybl, ypa, yls, ysp, yus, yva)) : ∀ n i yls, 30 < n + i → i ≤ 30 → (∀ j, j < i → yls j = vp_nar .boolean (ysp j)) → wY_learn_152 post x1 gP gV gC gF gh gs gp gv gd gl n (nI i) yof yfa ype ybe ybl ypa yls ysp yus yva := by
  intro n
  induction n with
  | zero => intro i yls h1 h2; omega
  | succ n ih =>
    intro i yls h1 h2 hs
    refine pk_le 30 i (fun hle => ?_) (fun hlt => ?_)
    · exact h yls fun j hj => hs j (by omega)
    · refine ⟨pk_in i 30 (by omega), pk_in i 30 (by omega), nm_r (e' := upd yls i (vp_nar .boolean (ysp i))) (by rw [nI_clamp (by omega)]) (nm_r (nI_1 i) (ih (i + 1) _ (by omega) (by omega) (fun j hj => ?_)))⟩
      by_cases e : j = i
      · rw [e, pk_us]
      · rw [pk_un e]; exact hs j (by omega)
theorem qs_y47 {post : Int32 → SY → Prop} {x0 : Int32} (hB : qs_B P V C F) (hA : qs_A P V al yof) (hfa : ∀ f, f < F → qs_fact P (afb f) yfa f) (hus : ∀ f, f < F → yus f = qs_01 (bt bl f)) (hx0 : qs_iv P V F bl afb al x0)
    (h : ∀ ysp yva yls, qs_sp P yls (qs_lp P V F bl afb al x0 P) → post (nI (qs_tmc (qs_lp P V F bl afb al x0 P) al P)) (nI P, nI V, gC, nI F, gh, gs, gp, gv, gd, 1, yof, yfa, ype, ybe, ybl, ypa, yls, ysp, yus, yva)) :
    ∀ n p ysp yva, P < n + p → p ≤ P → qs_sp P ysp (qs_lp P V F bl afb al x0 p) → wY_learn_47 post n (nI (qs_yc P V F bl afb al x0 p)) (nI p) (nI P) (nI V) gC (nI F) gh gs gp gv gd gl yof yfa ype ybe ybl ypa yls ysp yus yva := by
  obtain ⟨hP2, hP, hV1, hV, hC, hF⟩ := id hB
  intro n
  induction n with
  | zero => intro p ysp yva h1 h2; omega
  | succ n ih =>
    intro p ysp yva h1 h2 hs
    refine pk_le P p (fun hle => ?_) (fun hlt => ?_)
    · have e : p = P := by omega
      subst e
      refine ⟨31, qs_y152 (fun yls hyl => ?_) 31 0 yls (by omega) (by omega) (fun j hj => by omega)⟩
      rw [qs_yc_eq hP hV hA.1 hx0 p (Nat.le_refl _)]
      refine h ysp yva yls fun q w hq hw => ?_
      rw [hyl _ (by omega), hs q w hq hw, qs_nar01]
    · refine ⟨V + 2, qs_y60 hB hA hfa hus hlt (qs_lp_iv hP hV hx0 p (by omega)) (fun ysp yva hs' => ih (p + 1) ysp yva (by omega) (by omega) hs') (V + 2) 0 ysp yva (by omega) (by omega) hs⟩
theorem qs_ylearn {post : Int32 → SY → Prop} {rp rv dd : Nat} (hB : qs_B P V C F) (hA : qs_A P V al yof) (hfa : ∀ f, f < F → qs_fact P (afb f) yfa f) (hrp : rp < P) (hrv : rv < 5) (hbl : ∀ f, f < F → ybl f = qs_01 (bt bl f)) (hnd : qs_nd P (qs_wo al rp rv) anb ypa dd) (hx0 : qs_iv P V F bl afb al (anb dd)) (h3 : gs = 3)
    (h : ∀ ysp yus yva yls, qs_sp P yls (qs_lp P V F bl afb al (anb dd) P) → post (nI (qs_tmc (qs_lp P V F bl afb al (anb dd) P) al P)) (nI P, nI V, gC, nI F, gh, gs, nI rp, nI rv, nI dd, 1, yof, yfa, ype, ybe, ybl, ypa, yls, ysp, yus, yva)) :
    wpY_learn post (nI P, nI V, gC, nI F, gh, gs, nI rp, nI rv, nI dd, gl, yof, yfa, ype, ybe, ybl, ypa, yls, ysp, yus, yva) := by
  obtain ⟨hP2, hP, hV1, hV, hC, hF⟩ := id hB
  unfold wpY_learn
  dsimp only
  refine br_t h3 (qs_ynode hP hA hrp hrv hnd (fun ysp hsp => ⟨F + 1, ?_⟩))
  refine qs_y17 (by omega) hbl (fun yus hus => ⟨P + 1, ?_⟩) (F + 1) 0 yus (by omega) (by omega) (fun g hg => by omega)
  exact qs_y47 hB hA hfa hus hx0 (fun ysp yva yls hyl => h ysp yus yva yls hyl) (P + 1) 0 ysp yva (by omega) (by omega) hsp
end
theorem i_vc_learn {k : Nat} {u : SX} {v : SY} (I : i_Rel k u v) (hk : k + 4 ≤ 2051) : wpX_learn (fun r u' => wpY_learn (fun r' v' => r' = r ∧ i_Rel (k + 4) u' v') v) u := by
  refine qs_el (Q := fun u v => wpX_learn (fun r u' => wpY_learn (fun r' v' => r' = r ∧ i_Rel (k + 4) u' v') v) u) I ?_
  intro P V C F al mu hsu sP sL sH st rP rV so bl de hlr lb rc fr ol rf dm ts lv aff afb anb aru atc atr ald alt gh gs gp gv gd gl yof yfa ype ybe ybl ypa yls ysp yus yva hB hA hFc hPe hRl hRs
  obtain ⟨hP2, hP, hV1, hV, hC, hF⟩ := id hB
  have hgs := hRs.1
  subst hgs
  refine br_c (fun h3 => ?_) (fun h3 => br_f h3 ⟨rfl, qs_mk hB hA hFc hPe hRl hRs⟩)
  obtain ⟨rp, rv, a1, a2, a3, a4, a5, a6, a7, a8, a9, b1, b2, b3, dd, b4, b5, b6, b7⟩ := qs_Rs3 hRs h3
  subst a4 a5 a6 a7 b4 b5
  have hdP := (qs_nd_le hP b6 dd (Nat.le_refl _)).1
  have hreg : qs_reg P V (qs_wo al rp rv) := qs_wo_reg hP hA.1 a1 a3 hV
  have hne : qs_ne P (qs_wo al rp rv) := qs_wo_ne hP (qs_A_ne hA) a1 (by omega)
  obtain ⟨hn, hr, hst⟩ := qs_nd_box hP hne hreg b6 dd (Nat.le_refl _)
  have hta : qs_sub (qs_wo al rp rv) al := by
    intro i hi hb
    rcases qs_ot.mp hb with z | z
    · exact ((qs_ant hi).mp z).1
    · rw [qs_bb (by omega) hi] at z
      rw [of_decide_eq_true z]; exact a8
  have hx0 : qs_iv P V F bl afb al (anb dd) := ⟨hr, hn, fun ⟨a, ha⟩ => b2 ⟨a, qs_sol_m hst ha⟩, qs_sub_t hst hta⟩
  rcases b7 with ⟨c1, c2⟩ | ⟨c1, c2, c3, c4⟩
  · refine br_t c1 ⟨pk_in dd 8 (by omega), nm_r (e' := anb dd) (by rw [nI_clamp (by omega)]) ⟨P + 1, ?_⟩⟩
    refine qs_l30 (x0 := anb dd) hB (qs_Fc_31 hFc) b1 hx0 (fun rc fr ol rf dm ts lv aru atc atr ald alt hRl' => ?_) (P + 1) 0 _ _ _ _ _ _ _ _ _ _ _ _ (by omega) (by omega) hRl
    refine qs_l78 hP ?_
    refine qs_ylearn hB hA (qs_Fc_f hFc) a1 (by omega) b3 b6 hx0 h3 (fun ysp yus yva yls hyl => ⟨rfl, ?_⟩)
    exact qs_mk hB hA hFc hPe hRl' ⟨rfl, Or.inr ⟨rp, rv, a1, a2, a3, rfl, rfl, rfl, rfl, a8, Or.inr (Or.inr ⟨h3, a9, b1, b2, b3, dd, rfl, rfl, b6, Or.inr ⟨rfl, rfl, rfl, hyl⟩⟩)⟩⟩
  · subst c3
    refine br_f (by rw [c1]; decide) (qs_l78 hP ?_)
    refine qs_ylearn hB hA (qs_Fc_f hFc) a1 (by omega) b3 b6 hx0 h3 (fun ysp yus yva yls hyl => ⟨rfl, ?_⟩)
    exact qs_mk hB hA hFc hPe hRl ⟨rfl, Or.inr ⟨rp, rv, a1, a2, a3, rfl, rfl, rfl, rfl, a8, Or.inr (Or.inr ⟨h3, a9, b1, b2, b3, dd, rfl, rfl, b6, Or.inr ⟨c1, rfl, rfl, hyl⟩⟩)⟩⟩
end
