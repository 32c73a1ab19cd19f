section
/-! rows of the kit to paste -/
theorem pk_us {f : Nat → Int32} {k : Nat} {x : Int32} : upd f k x k = x := if_pos rfl
theorem pk_un {f : Nat → Int32} {k j : Nat} {x : Int32} (h : j ≠ k) : upd f k x j = f j := if_neg h
theorem pk_sub {a b : Nat} (h : b ≤ a) : nI a - nI b = nI (a - b) := by
  obtain ⟨c, rfl⟩ : ∃ c, a = c + b := ⟨a - b, by omega⟩
  rw [← nI_add, Int32.add_sub_cancel, Nat.add_sub_cancel]
theorem pk_m1 (n : Nat) : nI (n + 1) + (-1) = nI n := by
  rw [← nI_1, Int32.add_assoc, show (1 : Int32) + (-1) = 0 from rfl, Int32.add_zero]
theorem pk_mul (a b : Nat) : nI a * nI b = nI (a * b) := (Int32.ofNat_mul a b).symm
theorem pk_sub_toInt {a b : Nat} (ha : a < 2 ^ 30) (hb : b < 2 ^ 30) : (nI a - nI b).toInt = (a : Int) - b := by
  rw [Int32.toInt_sub, nI_toInt (by omega), nI_toInt (by omega)]
  exact Int.bmod_eq_of_le (by omega) (by omega)
theorem pk_sneg {a b : Nat} (hb : b < 2 ^ 30) (h : a < b) : nI a - nI b < 0 := by
  rw [Int32.lt_iff_toInt_lt, pk_sub_toInt (by omega) hb, show (0 : Int32).toInt = 0 from by decide]
  omega
theorem pk_ix (x : Int32) {n : Nat} (hn : n < 2 ^ 31) : x < 0 ∨ nI n ≤ x ∨ ∃ j : Nat, j < n ∧ x = nI j := by
  by_cases h : x < 0
  · exact Or.inl h
  · obtain ⟨j, hj, rfl⟩ := nI_of h
    by_cases h2 : j < n
    · exact Or.inr (Or.inr ⟨j, h2, rfl⟩)
    · exact Or.inr (Or.inl (nI_le (by omega) hj))
theorem pk_le {x y : Int32} {A B : Prop} (a b : Nat) (f : a ≤ b → A) (g : b < a → B) (hx : x = nI a := by rfl) (hy : y = nI b := by rfl) (ha : a < 2 ^ 31 := by omega) (hb : b < 2 ^ 31 := by omega) : (x ≤ y → A) ∧ (¬ x ≤ y → B) := by
  subst hx hy
  rw [nI_leI ha hb]
  exact ⟨f, fun z => g (by omega)⟩
theorem pk_lt {x y : Int32} {A B : Prop} (a b : Nat) (f : a < b → A) (g : b ≤ a → B) (hx : x = nI a := by rfl) (hy : y = nI b := by rfl) (ha : a < 2 ^ 31 := by omega) (hb : b < 2 ^ 31 := by omega) : (x < y → A) ∧ (¬ x < y → B) := by
  subst hx hy
  rw [nI_ltI ha hb]
  exact ⟨f, fun z => g (by omega)⟩
theorem pk_eq {x y : Int32} {A B : Prop} (a b : Nat) (f : a = b → A) (g : a ≠ b → B) (hx : x = nI a := by rfl) (hy : y = nI b := by rfl) (ha : a < 2 ^ 31 := by omega) (hb : b < 2 ^ 31 := by omega) : (x = y → A) ∧ (¬ x = y → B) := by
  subst hx hy
  rw [nI_eq ha hb]
  exact ⟨f, g⟩
theorem pk_in {x : Int32} (n N : Nat) (h : n < N) (hx : x = nI n := by rfl) (hN : N < 2 ^ 31 := by omega) : vp_in x N := by
  subst hx
  exact vp_in_nI h hN
theorem pk_cl {x : Int32} (n : Nat) (hx : x = nI n := by rfl) (h : n < 2 ^ 31 := by omega) : x.toNatClampNeg = n := by
  subst hx
  exact nI_clamp h
theorem pk_tn {n : Nat} (h : n < 2 ^ 32) : (nI n).toBitVec.toNat = n := Nat.mod_eq_of_lt h
theorem pk_and (x : Int32) {m : Int32} (k : Nat) (hm : m.toBitVec.toNat = 2 ^ k - 1) : x &&& m = nI (x.toBitVec.toNat % 2 ^ k) := by
  apply Int32.toBitVec_inj.mp
  apply BitVec.eq_of_toNat_eq
  rw [Int32.toBitVec_and, BitVec.toNat_and, hm, Nat.and_two_pow_sub_one_eq_mod]
  show _ = (BitVec.ofNat 32 _).toNat
  rw [BitVec.toNat_ofNat]
  exact (Nat.mod_eq_of_lt (Nat.lt_of_le_of_lt (Nat.mod_le _ _) x.toBitVec.isLt)).symm
theorem pk_andN {n : Nat} (h : n < 2 ^ 32) {m : Int32} (k : Nat) (hm : m.toBitVec.toNat = 2 ^ k - 1) : nI n &&& m = nI (n % 2 ^ k) := by
  rw [pk_and _ k hm, pk_tn h]
theorem pk_shr (a s : Int32) (k : Nat) (hs : (s.toBitVec.smod 32).toNat = k) : (a >>> s).toInt = a.toInt >>> k := by
  show (a.toBitVec.sshiftRight (s.toBitVec.smod 32).toNat).toInt = _
  rw [hs, BitVec.toInt_sshiftRight]
  rfl
theorem pk_shrN {n : Nat} (h : n < 2 ^ 31) (s : Int32) (k : Nat) (hs : (s.toBitVec.smod 32).toNat = k) : nI n >>> s = nI (n / 2 ^ k) := by
  apply Int32.toInt_inj.mp
  have h2 : n / 2 ^ k ≤ n := Nat.div_le_self _ _
  rw [pk_shr _ _ k hs, nI_toInt h, nI_toInt (by omega), Int.shiftRight_eq_div_pow]
  rfl
def bt (x : Int32) (i : Nat) : Bool := x.toBitVec.getLsbD i
theorem b_ext {x y : Int32} (h : ∀ i, i < 32 → bt x i = bt y i) : x = y := Int32.toBitVec_inj.mp (BitVec.eq_of_getLsbD_eq (fun i hi => h i hi))
theorem b_or (x y : Int32) (i : Nat) : bt (x ||| y) i = (bt x i || bt y i) := by unfold bt; rw [Int32.toBitVec_or, BitVec.getLsbD_or]
theorem b_and (x y : Int32) (i : Nat) : bt (x &&& y) i = (bt x i && bt y i) := by unfold bt; rw [Int32.toBitVec_and, BitVec.getLsbD_and]
theorem b_xor (x y : Int32) (i : Nat) : bt (x ^^^ y) i = (bt x i ^^ bt y i) := by unfold bt; rw [Int32.toBitVec_xor, BitVec.getLsbD_xor]
theorem b_big {x : Int32} {i : Nat} (h : 32 ≤ i) : bt x i = false := BitVec.getLsbD_of_ge _ _ h
theorem b_m1 : ∀ i, i < 32 → bt (-1) i = true := by decide +kernel
theorem b_0 (i : Nat) : bt 0 i = false := BitVec.getLsbD_zero
theorem s_l : ∀ n, n < 32 → ((nI n &&& 31).toBitVec.smod 32).toNat = n := by decide +kernel
theorem s_u : ∀ n, n < 32 → (((nI n).toUInt32 &&& Int32.toUInt32 31).toBitVec % 32).toNat = n := by decide +kernel
theorem b_shl (n : Nat) (hn : n < 32) (x : Int32) {i : Nat} (hi : i < 32) : bt (x <<< (nI n &&& 31)) i = (decide (n ≤ i) && bt x (i - n)) := by
  unfold bt
  rw [Int32.toBitVec_shiftLeft]
  show (x.toBitVec <<< ((nI n &&& 31).toBitVec.smod 32).toNat).getLsbD i = _
  rw [s_l n hn, BitVec.getLsbD_shiftLeft]
  rcases Nat.lt_or_ge i n with h | h
  · simp [h, Nat.not_le.mpr h]
  · simp [hi, h, Nat.not_lt.mpr h]
theorem b_ushr (n : Nat) (hn : n < 32) (x : Int32) (i : Nat) : bt ((x.toUInt32 >>> ((nI n).toUInt32 &&& Int32.toUInt32 31)).toInt32) i = bt x (n + i) := by
  show (x.toUInt32 >>> ((nI n).toUInt32 &&& Int32.toUInt32 31)).toBitVec.getLsbD i = x.toUInt32.toBitVec.getLsbD (n + i)
  rw [UInt32.toBitVec_shiftRight]
  show (x.toUInt32.toBitVec >>> (((nI n).toUInt32 &&& Int32.toUInt32 31).toBitVec % 32).toNat).getLsbD i = _
  rw [s_u n hn, BitVec.getLsbD_ushiftRight]
theorem b_sshr (n : Nat) (hn : n < 32) (x : Int32) {i : Nat} (hi : i < 32) : bt (x >>> (nI n &&& 31)) i = if n + i < 32 then bt x (n + i) else bt x 31 := by
  unfold bt
  rw [Int32.toBitVec_shiftRight]
  show (x.toBitVec.sshiftRight ((nI n &&& 31).toBitVec.smod 32).toNat).getLsbD i = _
  rw [s_l n hn, BitVec.getLsbD_sshiftRight, BitVec.msb_eq_getLsbD_last]
  simp [hi]
theorem nx_and (a b : Nat) : nI a &&& nI b = nI (a &&& b) := by
  apply Int32.toBitVec_inj.1
  show BitVec.ofNat 32 a &&& BitVec.ofNat 32 b = BitVec.ofNat 32 (a &&& b)
  apply BitVec.eq_of_getLsbD_eq
  intro i hi
  simp [hi]
theorem nx_xor (a b : Nat) : nI a ^^^ nI b = nI (a ^^^ b) := by
  apply Int32.toBitVec_inj.1
  show BitVec.ofNat 32 a ^^^ BitVec.ofNat 32 b = BitVec.ofNat 32 (a ^^^ b)
  apply BitVec.eq_of_getLsbD_eq
  intro i hi
  simp [hi]
theorem nx_cnt : ∀ j : Fin 32, (UInt32.ofNat j.val &&& Int32.toUInt32 31).toNat % 32 = j.val := by decide +kernel
theorem nx_ush {k j : Nat} (hk : k < 65536) (hj : j < 32) : ((nI k).toUInt32 >>> ((nI j).toUInt32 &&& Int32.toUInt32 31)).toInt32 = nI (k >>> j) := by
  have hs : k >>> j ≤ k := by
    rw [Nat.shiftRight_eq_div_pow]
    exact Nat.div_le_self _ _
  have e2 : UInt32.ofNat k >>> (UInt32.ofNat j &&& Int32.toUInt32 31) = UInt32.ofNat (k >>> j) := by
    apply UInt32.toNat_inj.1
    have h1 : (UInt32.ofNat k).toNat = k := Nat.mod_eq_of_lt (by omega)
    have h2 : (UInt32.ofNat (k >>> j)).toNat = k >>> j := Nat.mod_eq_of_lt (by omega)
    rw [UInt32.toNat_shiftRight, nx_cnt ⟨j, hj⟩, h1, h2]
  show (UInt32.ofNat k >>> (UInt32.ofNat j &&& Int32.toUInt32 31)).toInt32 = _
  rw [e2]
  rfl
theorem nx_bit {k j : Nat} (hk : k < 65536) (hj : j < 16) : (((nI k).toUInt32 >>> ((nI j).toUInt32 &&& Int32.toUInt32 31)).toInt32 &&& 1) = 0 ↔ k.testBit j = false := by
  rw [nx_ush hk (by omega)]
  show nI (k >>> j) &&& nI 1 = 0 ↔ _
  rw [nx_and, Nat.and_one_is_mod, ← nI_0, nI_eq (by omega) (by omega), Nat.testBit_eq_decide_div_mod_eq, Nat.shiftRight_eq_div_pow, decide_eq_false_iff_not]
  generalize k / 2 ^ j = z
  omega
end
section
/-! masks below 32, bits of a table, the subsets of a mask in their order -/
def oz_er (S v : Nat) : Nat := S &&& (31 ^^^ 2 ^ v)
def oz_co (F S : Nat) : Nat := F &&& (31 ^^^ S)
def oz_nx (o a : Nat) : Nat := (a + (32 - o)) &&& o
def oz_bi (b : Bool) : Int32 := if b = true then 1 else 0
theorem oz_bi0 (b : Bool) : oz_bi b = 0 ↔ b = false := by cases b <;> decide
theorem oz_bi1 (b : Bool) : oz_bi b = 1 ↔ b = true := by cases b <;> decide
theorem oz_biE (a b : Bool) : oz_bi a = oz_bi b ↔ a = b := by cases a <;> cases b <;> decide
theorem oz_or (a b : Nat) : nI a ||| nI b = nI (a ||| b) := by
  apply Int32.toBitVec_inj.1
  show BitVec.ofNat 32 a ||| BitVec.ofNat 32 b = BitVec.ofNat 32 (a ||| b)
  apply BitVec.eq_of_getLsbD_eq
  intro i hi
  simp [hi]
theorem oz_pw : ∀ v, v < 31 → (1 : Int32) <<< (nI v &&& 31) = nI (2 ^ v) := by decide +kernel
theorem oz_erI : ∀ S, S < 32 → ∀ v, v < 5 → nI S &&& (((1 : Int32) <<< (nI v &&& 31)) ^^^ (-1)) = nI (oz_er S v) := by decide +kernel
theorem oz_coI : ∀ F, F < 32 → ∀ S, S < 32 → nI F &&& (nI S ^^^ (-1)) = nI (oz_co F S) := by decide +kernel
theorem oz_nxI : ∀ o, o < 32 → ∀ a, a < 32 → (nI a - nI o) &&& nI o = nI (oz_nx o a) := by decide +kernel
theorem oz_orI {S v : Nat} (hv : v < 5) : nI S ||| ((1 : Int32) <<< (nI v &&& 31)) = nI (S ||| 2 ^ v) := by
  rw [oz_pw v (by omega), oz_or]
theorem oz_xoI {S v : Nat} (hv : v < 5) : nI S ^^^ ((1 : Int32) <<< (nI v &&& 31)) = nI (S ^^^ 2 ^ v) := by
  rw [oz_pw v (by omega), nx_xor]
theorem oz_bitI {S v : Nat} (hS : S < 32) (hv : v < 5) : (((nI S).toUInt32 >>> ((nI v).toUInt32 &&& Int32.toUInt32 31)).toInt32 &&& 1) = 0 ↔ S.testBit v = false :=
  nx_bit (by omega) (by omega)
theorem oz_b1 : ∀ i, i < 32 → bt 1 i = decide (i = 0) := by decide +kernel
theorem oz_bib (b : Bool) : ∀ i, i < 32 → bt (oz_bi b) i = (decide (i = 0) && b) := by
  intro i hi
  cases b
  · show bt 0 i = _
    rw [b_0, Bool.and_false]
  · show bt 1 i = _
    rw [oz_b1 i hi, Bool.and_true]
theorem oz_valX (t : Int32) {a : Nat} (ha : a < 32) : ((t.toUInt32 >>> ((nI a).toUInt32 &&& Int32.toUInt32 31)).toInt32) &&& 1 = oz_bi (bt t a) := by
  apply b_ext
  intro i hi
  rw [b_and, b_ushr a ha, oz_b1 i hi, oz_bib _ i hi]
  by_cases h : i = 0
  · subst h; simp
  · simp [h]
theorem oz_valY (t : Int32) {a : Nat} (ha : a < 32) : (t >>> (nI a &&& 31)) &&& 1 = oz_bi (bt t a) := by
  apply b_ext
  intro i hi
  rw [b_and, b_sshr a ha t hi, oz_b1 i hi, oz_bib _ i hi]
  by_cases h : i = 0
  · subst h
    rw [if_pos (by omega)]; simp
  · simp [h]
theorem oz_31 (x : Nat) : Nat.testBit 31 x = decide (x < 5) := Nat.testBit_two_pow_sub_one 5 x
theorem oz_hi {S x : Nat} (h : S < 32) (hx : 5 ≤ x) : S.testBit x = false :=
  Nat.testBit_lt_two_pow (Nat.lt_of_lt_of_le h (Nat.pow_le_pow_right (by decide) hx : 2 ^ 5 ≤ 2 ^ x))
theorem oz_tlt {S x : Nat} (h : S < 32) (hx : S.testBit x = true) : x < 5 := by
  rcases Nat.lt_or_ge x 5 with z | z
  · exact z
  · rw [oz_hi h z] at hx; cases hx
theorem oz_ltn {S n : Nat} (h : ∀ x, S.testBit x = true → x < n) : S < 2 ^ n := by
  apply Nat.lt_pow_two_of_testBit
  intro i hi
  cases hb : S.testBit i
  · rfl
  · have := h i hb; omega
theorem oz_tln {S n x : Nat} (h : S < 2 ^ n) (hx : S.testBit x = true) : x < n := by
  rcases Nat.lt_or_ge x n with z | z
  · exact z
  · rw [Nat.testBit_lt_two_pow (Nat.lt_of_lt_of_le h (Nat.pow_le_pow_right (by decide) z))] at hx; cases hx
theorem oz_er_t {S v x : Nat} (h : S < 32) : (oz_er S v).testBit x = (S.testBit x && decide (x ≠ v)) := by
  unfold oz_er
  rw [Nat.testBit_and, Nat.testBit_xor, oz_31, Nat.testBit_two_pow]
  by_cases hx : x < 5
  · by_cases hv : v = x
    · subst hv; simp [hx]
    · have hv' : ¬ x = v := fun z => hv z.symm
      simp [hx, hv, hv']
  · rw [oz_hi h (by omega)]; simp
theorem oz_co_t {F S x : Nat} (h : F < 32) : (oz_co F S).testBit x = (F.testBit x && !(S.testBit x)) := by
  unfold oz_co
  rw [Nat.testBit_and, Nat.testBit_xor, oz_31]
  by_cases hx : x < 5
  · simp [hx]
  · rw [oz_hi h (by omega)]; simp
theorem oz_er_le (S v : Nat) : oz_er S v ≤ S := Nat.and_le_left
theorem oz_co_le (F S : Nat) : oz_co F S ≤ F := Nat.and_le_left
theorem oz_er_lt {S v : Nat} (hS : S < 32) (h : S.testBit v = true) : oz_er S v < S := by
  rcases Nat.lt_or_ge (oz_er S v) S with z | z
  · exact z
  · have e : oz_er S v = S := Nat.le_antisymm (oz_er_le S v) z
    have t := oz_er_t (S := S) (v := v) (x := v) hS
    rw [e, h] at t; simp at t
theorem oz_nx_le (o a : Nat) : oz_nx o a ≤ o := Nat.and_le_right
def oz_sel (o : Nat) : Nat → Nat
  | 0 => 0
  | j + 1 => oz_nx o (oz_sel o j)
theorem oz_sel_le (o j : Nat) : oz_sel o j ≤ o := by
  cases j with
  | zero => exact Nat.zero_le _
  | succ j => exact oz_nx_le _ _
def oz_len (o : Nat) : Nat := ((List.range 32).filter (fun a => a &&& o == a)).length
def oz_rk (o a : Nat) : Nat := ((List.range a).filter (fun b => b &&& o == b)).length
theorem oz_len_in : ∀ o, o < 32 → 0 < oz_len o ∧ oz_len o ≤ 32 := by decide +kernel
theorem oz_sel_ne : ∀ o, o < 32 → ∀ j, j < 32 → j + 1 < oz_len o → oz_sel o j ≠ o := by decide +kernel
theorem oz_sel_end : ∀ o, o < 32 → oz_sel o (oz_len o - 1) = o := by decide +kernel
theorem oz_sel_rk : ∀ o, o < 32 → ∀ a, a < 32 → a &&& o = a → oz_rk o a < oz_len o ∧ oz_sel o (oz_rk o a) = a := by decide +kernel
theorem oz_len16 : ∀ o, o < 32 → ∀ v, v < 5 → o.testBit v = false → oz_len o ≤ 16 := by decide +kernel
theorem oz_sel_sub (o j : Nat) : oz_sel o j &&& o = oz_sel o j := by
  cases j with
  | zero => exact Nat.zero_and o
  | succ j => show (_ &&& o) &&& o = _ &&& o; rw [Nat.and_assoc, Nat.and_self]
/-- a is a part of o, bit by bit -/
theorem oz_sub_iff {a o : Nat} : a &&& o = a ↔ ∀ x, a.testBit x = true → o.testBit x = true := by
  constructor
  · intro h x hx
    rw [← h, Nat.testBit_and] at hx
    exact (Bool.and_eq_true_iff.mp hx).2
  · intro h
    apply Nat.eq_of_testBit_eq
    intro x
    rw [Nat.testBit_and]
    cases hb : a.testBit x
    · rfl
    · rw [h x hb]; rfl
theorem oz_sub_le {a o : Nat} (h : a &&& o = a) : a ≤ o := by rw [← h]; exact Nat.and_le_right
/-- every part of o is met, and only parts -/
theorem oz_sel_all {o : Nat} (ho : o < 32) (P : Nat → Prop) : (∀ j, j < oz_len o → P (oz_sel o j)) ↔ ∀ a, a &&& o = a → P a := by
  constructor
  · intro h a ha
    have hl := oz_sub_le ha
    obtain ⟨h1, h2⟩ := oz_sel_rk o ho a (by omega) ha
    have h3 := h _ h1
    rw [h2] at h3
    exact h3
  · intro h j _
    exact h _ (oz_sel_sub o j)
/-- the int whose bits below k are q's -/
def oz_bo (q : Nat → Bool) : Nat → Int32
  | 0 => 0
  | k + 1 => oz_bo q k ||| (oz_bi (q k) <<< (nI k &&& 31))
theorem oz_bo_t (q : Nat → Bool) : ∀ k, k ≤ 32 → ∀ i, i < 32 → bt (oz_bo q k) i = (decide (i < k) && q i) := by
  intro k
  induction k with
  | zero =>
    intro _ i _
    show bt 0 i = _
    rw [b_0]; simp
  | succ k ih =>
    intro hk i hi
    show bt (oz_bo q k ||| (oz_bi (q k) <<< (nI k &&& 31))) i = _
    rw [b_or, ih (by omega) i hi, b_shl k (by omega) _ hi, oz_bib _ (i - k) (by omega)]
    rcases Nat.lt_trichotomy i k with h | h | h
    · simp [h, Nat.not_le.mpr h, Nat.lt_succ_of_lt h]
    · subst h; simp
    · have h1 : ¬ i < k := by omega
      have h2 : ¬ i < k + 1 := by omega
      have h3 : ¬ i - k = 0 := by omega
      simp [h1, h2, h3]
theorem oz_bo_eq {p q : Nat → Bool} {k : Nat} (hk : k ≤ 32) : oz_bo p k = oz_bo q k ↔ ∀ i, i < k → p i = q i := by
  constructor
  · intro h i hi
    have h1 := oz_bo_t p k hk i (by omega)
    have h2 := oz_bo_t q k hk i (by omega)
    rw [h, h2] at h1
    simpa [hi] using h1.symm
  · intro h
    apply b_ext
    intro i hi
    rw [oz_bo_t p k hk i hi, oz_bo_t q k hk i hi]
    by_cases z : i < k
    · rw [h i z]
    · simp [z]
theorem oz_shl0 : ∀ s, s < 32 → (0 : Int32) <<< (nI s &&& 31) = 0 := by decide +kernel
theorem oz_or0 (x : Int32) : x ||| 0 = x := by
  apply b_ext
  intro i _
  rw [b_or, b_0, Bool.or_false]
/-- whether q and q' differ below k -/
def oz_dp (q q' : Nat → Bool) : Nat → Bool
  | 0 => false
  | k + 1 => oz_dp q q' k || (q k != q' k)
theorem oz_dp_t (q q' : Nat → Bool) : ∀ k, oz_dp q q' k = true ↔ ∃ i, i < k ∧ q i ≠ q' i := by
  intro k
  induction k with
  | zero => exact ⟨(fun h => nomatch h), fun ⟨i, hi, _⟩ => absurd hi (Nat.not_lt_zero i)⟩
  | succ k ih =>
    show (oz_dp q q' k || (q k != q' k)) = true ↔ _
    rw [Bool.or_eq_true, ih]
    constructor
    · rintro (⟨i, hi, h⟩ | h)
      · exact ⟨i, by omega, h⟩
      · exact ⟨k, by omega, by simpa using h⟩
    · rintro ⟨i, hi, h⟩
      by_cases z : i = k
      · subst z; exact Or.inr (by simpa using h)
      · exact Or.inl ⟨i, by omega, h⟩
end
section
/-! lists of different keys, and that two of them with one kernel are equally long -/
def oz_ins (L : List Int32) (d : Bool) (r : Int32) : List Int32 := if d = true ∧ ¬ r ∈ L then L ++ [r] else L
def oz_sq (key : Nat → Int32) (dep : Nat → Bool) : Nat → List Int32
  | 0 => []
  | k + 1 => oz_ins (oz_sq key dep k) (dep k) (key k)
theorem oz_ins_len (L : List Int32) (d : Bool) (r : Int32) : (oz_ins L d r).length ≤ L.length + 1 := by
  unfold oz_ins
  split
  · simp
  · omega
theorem oz_ins_nd {L : List Int32} (h : L.Nodup) (d : Bool) (r : Int32) : (oz_ins L d r).Nodup := by
  unfold oz_ins
  split
  · next z =>
    rw [List.nodup_append]
    refine ⟨h, by simp, ?_⟩
    intro a ha b hb e
    rw [List.mem_singleton] at hb
    exact z.2 (by rw [← hb, ← e]; exact ha)
  · exact h
theorem oz_ins_mem {L : List Int32} {d : Bool} {r x : Int32} : x ∈ oz_ins L d r ↔ x ∈ L ∨ (d = true ∧ x = r) := by
  unfold oz_ins
  split
  · next z => simp [z.1]
  · next z =>
    constructor
    · exact Or.inl
    · rintro (h | ⟨h, rfl⟩)
      · exact h
      · by_cases y : x ∈ L
        · exact y
        · exact absurd ⟨h, y⟩ z
theorem oz_sq_len (key : Nat → Int32) (dep : Nat → Bool) : ∀ k, (oz_sq key dep k).length ≤ k := by
  intro k
  induction k with
  | zero => exact Nat.le_refl 0
  | succ k ih =>
    have := oz_ins_len (oz_sq key dep k) (dep k) (key k)
    show (oz_ins _ _ _).length ≤ _
    omega
theorem oz_sq_nd (key : Nat → Int32) (dep : Nat → Bool) : ∀ k, (oz_sq key dep k).Nodup := by
  intro k
  induction k with
  | zero => exact List.nodup_nil
  | succ k ih => exact oz_ins_nd ih _ _
theorem oz_sq_mem {key : Nat → Int32} {dep : Nat → Bool} {x : Int32} : ∀ {k}, x ∈ oz_sq key dep k ↔ ∃ i, i < k ∧ dep i = true ∧ key i = x := by
  intro k
  induction k with
  | zero => exact ⟨(fun h => nomatch h), fun ⟨i, hi, _⟩ => absurd hi (Nat.not_lt_zero i)⟩
  | succ k ih =>
    show x ∈ oz_ins _ _ _ ↔ _
    rw [oz_ins_mem, ih]
    constructor
    · rintro (⟨i, hi, h⟩ | ⟨h, e⟩)
      · exact ⟨i, by omega, h⟩
      · exact ⟨k, by omega, h, e.symm⟩
    · rintro ⟨i, hi, h, e⟩
      by_cases z : i = k
      · subst z; exact Or.inr ⟨h, e.symm⟩
      · exact Or.inl ⟨i, by omega, h, e⟩
theorem oz_inj_len {α β : Type} [BEq β] [LawfulBEq β] (R : α → β → Prop) : ∀ (A : List α) (B : List β), A.Nodup → (∀ a, a ∈ A → ∃ b, b ∈ B ∧ R a b) → (∀ a a' b, R a b → R a' b → a = a') → A.length ≤ B.length := by
  intro A
  induction A with
  | nil => intro B _ _ _; exact Nat.zero_le _
  | cons a A ih =>
    intro B hn hm hu
    obtain ⟨b, hb, hr⟩ := hm a List.mem_cons_self
    rw [List.nodup_cons] at hn
    have h := ih (B.erase b) hn.2 (fun a' ha' => by
      obtain ⟨b', hb', hr'⟩ := hm a' (List.mem_cons_of_mem _ ha')
      refine ⟨b', (List.mem_erase_of_ne ?_).mpr hb', hr'⟩
      intro e
      subst e
      have := hu a a' b' hr hr'
      subst this
      exact hn.1 ha') hu
    rw [List.length_erase_of_mem hb] at h
    have : 0 < B.length := List.length_pos_of_mem hb
    simp only [List.length_cons]
    omega
theorem oz_len_eq {α : Type} [BEq α] [LawfulBEq α] {A B : List α} (hA : A.Nodup) (hB : B.Nodup) (h : ∀ x, x ∈ A ↔ x ∈ B) : A.length = B.length := by
  apply Nat.le_antisymm
  · exact oz_inj_len (fun a b => a = b) A B hA (fun a ha => ⟨a, (h a).mp ha, rfl⟩) (fun a a' b e e' => e.trans e'.symm)
  · exact oz_inj_len (fun a b => a = b) B A hB (fun a ha => ⟨a, (h a).mpr ha, rfl⟩) (fun a a' b e e' => e.trans e'.symm)
theorem oz_sq_half {k1 k2 : Nat → Int32} {d1 d2 : Nat → Bool} {N M : Nat} (Q : Nat → Nat → Prop)
    (h12 : ∀ i, i < N → ∃ j, j < M ∧ Q i j)
    (hd : ∀ i j, i < N → j < M → Q i j → d1 i = d2 j)
    (hk : ∀ i j i' j', i < N → j < M → i' < N → j' < M → Q i j → Q i' j' → (k1 i = k1 i' ↔ k2 j = k2 j')) :
    (oz_sq k1 d1 N).length ≤ (oz_sq k2 d2 M).length := by
  apply oz_inj_len (fun a b => ∃ i j, i < N ∧ j < M ∧ Q i j ∧ k1 i = a ∧ k2 j = b) _ _ (oz_sq_nd k1 d1 N)
  · intro a ha
    obtain ⟨i, hi, hdi, rfl⟩ := oz_sq_mem.mp ha
    obtain ⟨j, hj, hq⟩ := h12 i hi
    refine ⟨k2 j, oz_sq_mem.mpr ⟨j, hj, ?_, rfl⟩, i, j, hi, hj, hq, rfl, rfl⟩
    rw [← hd i j hi hj hq]; exact hdi
  · rintro a a' b ⟨i, j, hi, hj, hq, rfl, rfl⟩ ⟨i', j', hi', hj', hq', rfl, e⟩
    exact (hk i j i' j' hi hj hi' hj' hq hq').mpr e.symm
theorem oz_sq_same {k1 k2 : Nat → Int32} {d1 d2 : Nat → Bool} {N M : Nat} (Q : Nat → Nat → Prop)
    (h12 : ∀ i, i < N → ∃ j, j < M ∧ Q i j) (h21 : ∀ j, j < M → ∃ i, i < N ∧ Q i j)
    (hd : ∀ i j, i < N → j < M → Q i j → d1 i = d2 j)
    (hk : ∀ i j i' j', i < N → j < M → i' < N → j' < M → Q i j → Q i' j' → (k1 i = k1 i' ↔ k2 j = k2 j')) :
    (oz_sq k1 d1 N).length = (oz_sq k2 d2 M).length := by
  apply Nat.le_antisymm
  · exact oz_sq_half Q h12 hd hk
  · exact oz_sq_half (fun j i => Q i j) h21 (fun j i hj hi hq => (hd i j hi hj hq).symm) (fun j i j' i' hj hi hj' hi' hq hq' => (hk i j i' j' hi hj hi' hj' hq hq').symm)
/-- the array's first places hold the list -/
def oz_H (L : List Int32) (ar : Nat → Int32) : Prop := ∀ k, k < L.length → L[k]? = some (ar k)
theorem oz_H0 (ar : Nat → Int32) : oz_H [] ar := fun k hk => absurd hk (Nat.not_lt_zero k)
theorem oz_H_put {L : List Int32} {ar : Nat → Int32} (h : oz_H L ar) (r : Int32) : oz_H (L ++ [r]) (upd ar L.length r) := by
  intro k hk
  rw [List.length_append, List.length_singleton] at hk
  by_cases z : k = L.length
  · subst z
    rw [pk_us, List.getElem?_append_right (Nat.le_refl _), Nat.sub_self]
    rfl
  · rw [pk_un z, List.getElem?_append_left (by omega)]
    exact h k (by omega)
theorem oz_H_mem {L : List Int32} {ar : Nat → Int32} (h : oz_H L ar) {r : Int32} : r ∈ L ↔ ∃ k, k < L.length ∧ ar k = r := by
  constructor
  · intro hr
    obtain ⟨k, hk, e⟩ := List.mem_iff_getElem.mp hr
    refine ⟨k, hk, ?_⟩
    have := h k hk
    rw [List.getElem?_eq_getElem hk, e] at this
    exact (Option.some.inj this).symm
  · rintro ⟨k, hk, e⟩
    have := h k hk
    rw [e] at this
    exact List.mem_of_getElem? this
end
section
/-! X: keepRest, addRest, countRests -/
def oz_qx (t : Int32) (g o : Nat) : Nat → Bool := fun i => bt t (g ||| oz_sel o i)
def oz_qy (t : Int32) (g o v : Nat) : Nat → Bool := fun i => bt t (g ||| (oz_sel o i ^^^ 2 ^ v))
def oz_kx (t : Int32) (g o : Nat) : Int32 := oz_bo (oz_qx t g o) (oz_len o)
def oz_dx (t : Int32) (g o v : Nat) : Bool := oz_dp (oz_qx t g o) (oz_qy t g o v) (oz_len o)
def oz_ck (tb : Nat → Int32) (o fx : Nat) (k : Nat) : Int32 := oz_kx (tb (k % 3)) (oz_sel fx (k / 3)) o
def oz_cd (tb : Nat → Int32) (o fx v : Nat) (k : Nat) : Bool := oz_dx (tb (k % 3)) (oz_sel fx (k / 3)) o v
def oz_cl (tb : Nat → Int32) (o fx v : Nat) (k : Nat) : List Int32 := oz_sq (oz_ck tb o fx) (oz_cd tb o fx v) k
/-- the width: how many rest functions over S and v depend on v -/
def oz_W (tb : Nat → Int32) (F S v : Nat) : Nat := (oz_cl tb (S ||| 2 ^ v) (oz_co F (S ||| 2 ^ v)) v (3 * oz_len (oz_co F (S ||| 2 ^ v)))).length
theorem oz_cl_s (tb : Nat → Int32) (o fx v j f : Nat) (hf : f < 3) : oz_cl tb o fx v (3 * j + (f + 1)) = oz_ins (oz_cl tb o fx v (3 * j + f)) (oz_dx (tb f) (oz_sel fx j) o v) (oz_kx (tb f) (oz_sel fx j) o) := by
  show oz_ins _ (oz_dx (tb ((3 * j + f) % 3)) (oz_sel fx ((3 * j + f) / 3)) o v) (oz_kx (tb ((3 * j + f) % 3)) (oz_sel fx ((3 * j + f) / 3)) o) = _
  rw [show (3 * j + f) % 3 = f by omega, show (3 * j + f) / 3 = j by omega]
  rfl
theorem oz_or32 {a b : Nat} (ha : a < 32) (hb : b < 32) : a ||| b < 32 := Nat.or_lt_two_pow (n := 5) ha hb
theorem oz_xo32 {a b : Nat} (ha : a < 32) (hb : b < 32) : a ^^^ b < 32 := Nat.xor_lt_two_pow (n := 5) ha hb
theorem oz_p32 {v : Nat} (h : v < 5) : 2 ^ v < 32 := Nat.pow_lt_pow_right (a := 2) (n := 5) (by decide) h
section
variable {fn ff fk : Int32} {tb od wo lb gb lf : Nat → Int32}
theorem ox_keep7 (post : SX → Prop) (r : Int32) (L : List Int32) (rs : Nat → Int32) (hH : oz_H L rs) (hl : L.length < 64)
    (hp : ∀ rs', oz_H (oz_ins L true r) rs' → post (fn, ff, fk, nI (oz_ins L true r).length, tb, od, wo, lb, gb, lf, rs')) :
    ∀ d k, k + d = L.length → (∀ j, j < k → rs j ≠ r) → wX_keepRest_7 post r fn ff fk (nI L.length) tb od wo lb gb lf rs (d + 1) (nI k) := by
  intro d
  induction d with
  | zero =>
    intro k hk hn
    have hm : ¬ r ∈ L := fun z => by
      obtain ⟨j, hj, e⟩ := (oz_H_mem hH).mp z
      exact hn j (by omega) e
    have e : oz_ins L true r = L ++ [r] := if_pos ⟨rfl, hm⟩
    rw [e] at hp
    have h := hp _ (oz_H_put hH r)
    rw [List.length_append, List.length_singleton] at h
    refine pk_le L.length k (fun _ => ⟨vp_in_nI hl (by decide), nm_r ?_ (nm_r (nI_1 _) h)⟩) (fun z => absurd z (by omega))
    rw [nI_clamp (by omega)]
  | succ d ih =>
    intro k hk hn
    refine pk_le L.length k (fun z => absurd z (by omega)) (fun _ => ⟨vp_in_nI (by omega) (by decide), ?_⟩)
    rw [nI_clamp (by omega)]
    by_cases z : rs k = r
    · have hm := (oz_H_mem hH).mpr ⟨k, by omega, z⟩
      have e : oz_ins L true r = L := if_neg (fun y => y.2 hm)
      rw [e] at hp
      exact br_t z (hp rs hH)
    · refine br_f z (nm_r (nI_1 k) (ih (k + 1) (by omega) (fun j hj => ?_)))
      by_cases y : j = k
      · subst y; exact z
      · exact hn j (by omega)
theorem ox_keep (post : SX → Prop) (r : Int32) (b : Bool) (L : List Int32) (rs : Nat → Int32) (hH : oz_H L rs) (hl : L.length < 64)
    (hp : ∀ rs', oz_H (oz_ins L b r) rs' → post (fn, ff, fk, nI (oz_ins L b r).length, tb, od, wo, lb, gb, lf, rs')) :
    wpX_keepRest post (fn, ff, fk, nI L.length, tb, od, wo, lb, gb, lf, rs) r (oz_bi b) := by
  cases b
  · have e : oz_ins L false r = L := if_neg (fun y => nomatch y.1)
    rw [e] at hp
    exact br_t rfl (hp rs hH)
  · have h1 : ¬ oz_bi true = 0 := by decide
    exact br_f h1 ⟨_, ox_keep7 post r L rs hH hl hp L.length 0 (by omega) (fun j hj => absurd hj (Nat.not_lt_zero j))⟩
theorem ox_add64 (post : SX → Prop) (J : Int32 → Int32 → Int32 → Int32 → Int32 → Prop) (x1 x2 x4 : Int32) (q : Nat → Bool) (o j : Nat) (b : Bool)
    (L : List Int32) (rs : Nat → Int32) (ho : o < 32) (hj : j < oz_len o) (hH : oz_H L rs) (hl : L.length < 64)
    (he : j + 1 = oz_len o → ∀ rs', oz_H (oz_ins L b (oz_bo q (j + 1))) rs' → post (fn, ff, fk, nI (oz_ins L b (oz_bo q (j + 1))).length, tb, od, wo, lb, gb, lf, rs'))
    (hs : j + 1 < oz_len o → J (oz_bo q (j + 1)) (oz_bi b) (nI (j + 1)) (nI (oz_sel o (j + 1))) (nI (j + 1))) :
    wX_addRest_64 post J x1 x2 (nI o) x4 (oz_bo q j) (nI j) (nI (oz_sel o j)) (nI j) (oz_bi (q j)) (oz_bi b) fn ff fk (nI L.length) tb od wo lb gb lf rs := by
  have hl32 := (oz_len_in o ho).2
  have hle := oz_sel_le o j
  refine nm_r (e' := oz_bo q (j + 1)) rfl (nm_r (nI_1 j) ?_)
  by_cases z : j + 1 = oz_len o
  · have e : oz_sel o j = o := by
      have := oz_sel_end o ho
      rw [← z, Nat.add_sub_cancel] at this
      exact this
    refine br_t (congrArg nI e) ?_
    exact ox_keep _ _ b L rs hH hl (fun rs' h => he z rs' h)
  · have hne : ¬ nI (oz_sel o j) = nI o := by
      rw [nI_eq (by omega) (by omega)]
      exact oz_sel_ne o ho j (by omega) (by omega)
    exact br_f hne (nm_r (oz_nxI o ho _ (by omega)) (nm_r (nI_1 j) (hs (by omega))))
theorem ox_add15 (post : SX → Prop) (t : Int32) (g o v : Nat) (L : List Int32) (rs : Nat → Int32) (hg : g < 32) (ho : o < 32) (hv : v < 5) (hH : oz_H L rs) (hl : L.length < 64)
    (hp : ∀ rs', oz_H (oz_ins L (oz_dx t g o v) (oz_kx t g o)) rs' → post (fn, ff, fk, nI (oz_ins L (oz_dx t g o v) (oz_kx t g o)).length, tb, od, wo, lb, gb, lf, rs')) :
    ∀ d j, j + d + 1 = oz_len o → wX_addRest_15 post t (nI g) (nI o) (nI v) fn ff fk (nI L.length) tb od wo lb gb lf rs (d + 1) (oz_bo (oz_qx t g o) j) (oz_bi (oz_dp (oz_qx t g o) (oz_qy t g o v) j)) (nI j) (nI (oz_sel o j)) (nI j) := by
  have hl32 := (oz_len_in o ho).2
  intro d
  induction d with
  | zero =>
    intro j hj
    have hle := oz_sel_le o j
    have K : ∀ J : Int32 → Int32 → Int32 → Int32 → Int32 → Prop, wX_addRest_64 post J t (nI g) (nI o) (nI v) (oz_bo (oz_qx t g o) j) (nI j) (nI (oz_sel o j)) (nI j) (oz_bi (oz_qx t g o j)) (oz_bi (oz_dp (oz_qx t g o) (oz_qy t g o v) (j + 1))) fn ff fk (nI L.length) tb od wo lb gb lf rs := by
      intro J
      refine ox_add64 post J t (nI g) (nI v) (oz_qx t g o) o j _ L rs ho (by omega) hH hl (fun z => ?_) (fun z => absurd z (by omega))
      rw [z]
      exact hp
    have K := K (wX_addRest_15 post t (nI g) (nI o) (nI v) fn ff fk (nI L.length) tb od wo lb gb lf rs 0)
    have h10 : ((t.toUInt32 >>> ((nI g ||| nI (oz_sel o j)).toUInt32 &&& Int32.toUInt32 31)).toInt32) &&& 1 = oz_bi (oz_qx t g o j) := by
      rw [oz_or, oz_valX t (oz_or32 hg (by omega))]; rfl
    have h11 : ((t.toUInt32 >>> ((nI g ||| (nI (oz_sel o j) ^^^ ((1 : Int32) <<< (nI v &&& 31)))).toUInt32 &&& Int32.toUInt32 31)).toInt32) &&& 1 = oz_bi (oz_qy t g o v j) := by
      rw [oz_xoI hv, oz_or, oz_valX t (oz_or32 hg (oz_xo32 (by omega) (oz_p32 hv)))]; rfl
    have h32 : ¬ (32 : Int32) ≤ nI j := nI_ge (b := 32) (by omega) (by decide)
    have hdp : oz_dp (oz_qx t g o) (oz_qy t g o v) (j + 1) = (oz_dp (oz_qx t g o) (oz_qy t g o v) j || (oz_qx t g o j != oz_qy t g o v j)) := rfl
    refine br_f h32 (nm_r h10 (nm_r h11 (br_c (fun h0 => br_c (fun h1 => ?_) (fun h1 => ?_)) (fun h0 => ?_))))
    · rw [oz_bi0] at h0
      rw [oz_biE] at h1
      rw [h0, h1] at hdp
      rw [hdp, Bool.false_or, bne_self_eq_false] at K
      exact K
    · rw [oz_bi0] at h0
      rw [oz_biE] at h1
      rw [h0, Bool.false_or, bne_iff_ne.mpr h1] at hdp
      rw [hdp] at K
      exact K
    · rw [oz_bi0, Bool.not_eq_false] at h0
      rw [h0, Bool.true_or] at hdp
      rw [hdp] at K
      exact K
  | succ d ih =>
    intro j hj
    have hle := oz_sel_le o j
    have K : wX_addRest_64 post (wX_addRest_15 post t (nI g) (nI o) (nI v) fn ff fk (nI L.length) tb od wo lb gb lf rs (d + 1)) t (nI g) (nI o) (nI v) (oz_bo (oz_qx t g o) j) (nI j) (nI (oz_sel o j)) (nI j) (oz_bi (oz_qx t g o j)) (oz_bi (oz_dp (oz_qx t g o) (oz_qy t g o v) (j + 1))) fn ff fk (nI L.length) tb od wo lb gb lf rs :=
      ox_add64 post _ t (nI g) (nI v) (oz_qx t g o) o j _ L rs ho (by omega) hH hl (fun z => absurd z (by omega)) (fun _ => ih (j + 1) (by omega))
    have h10 : ((t.toUInt32 >>> ((nI g ||| nI (oz_sel o j)).toUInt32 &&& Int32.toUInt32 31)).toInt32) &&& 1 = oz_bi (oz_qx t g o j) := by
      rw [oz_or, oz_valX t (oz_or32 hg (by omega))]; rfl
    have h11 : ((t.toUInt32 >>> ((nI g ||| (nI (oz_sel o j) ^^^ ((1 : Int32) <<< (nI v &&& 31)))).toUInt32 &&& Int32.toUInt32 31)).toInt32) &&& 1 = oz_bi (oz_qy t g o v j) := by
      rw [oz_xoI hv, oz_or, oz_valX t (oz_or32 hg (oz_xo32 (by omega) (oz_p32 hv)))]; rfl
    have h32 : ¬ (32 : Int32) ≤ nI j := nI_ge (b := 32) (by omega) (by decide)
    have hdp : oz_dp (oz_qx t g o) (oz_qy t g o v) (j + 1) = (oz_dp (oz_qx t g o) (oz_qy t g o v) j || (oz_qx t g o j != oz_qy t g o v j)) := rfl
    refine br_f h32 (nm_r h10 (nm_r h11 (br_c (fun h0 => br_c (fun h1 => ?_) (fun h1 => ?_)) (fun h0 => ?_))))
    · rw [oz_bi0] at h0
      rw [oz_biE] at h1
      rw [h0, h1] at hdp
      rw [hdp, Bool.false_or, bne_self_eq_false] at K
      exact K
    · rw [oz_bi0] at h0
      rw [oz_biE] at h1
      rw [h0, Bool.false_or, bne_iff_ne.mpr h1] at hdp
      rw [hdp] at K
      exact K
    · rw [oz_bi0, Bool.not_eq_false] at h0
      rw [h0, Bool.true_or] at hdp
      rw [hdp] at K
      exact K
theorem ox_add (post : SX → Prop) (t : Int32) (g o v : Nat) (L : List Int32) (rs : Nat → Int32) (hg : g < 32) (ho : o < 32) (hv : v < 5) (hH : oz_H L rs) (hl : L.length < 64)
    (hp : ∀ rs', oz_H (oz_ins L (oz_dx t g o v) (oz_kx t g o)) rs' → post (fn, ff, fk, nI (oz_ins L (oz_dx t g o v) (oz_kx t g o)).length, tb, od, wo, lb, gb, lf, rs')) :
    wpX_addRest post (fn, ff, fk, nI L.length, tb, od, wo, lb, gb, lf, rs) t (nI g) (nI o) (nI v) := by
  have h0 := (oz_len_in o ho).1
  exact ⟨_, ox_add15 post t g o v L rs hg ho hv hH hl hp (oz_len o - 1) 0 (by omega)⟩
theorem ox_cnt37 (post : Int32 → SX → Prop) (J : Int32 → Int32 → Int32 → Int32 → Int32 → Int32 → (Nat → Int32) → (Nat → Int32) → (Nat → Int32) → (Nat → Int32) → (Nat → Int32) → (Nat → Int32) → (Nat → Int32) → Prop)
    (o fx v j : Nat) (ho : o < 32) (hfx : fx < 32) (hv : v < 5) (h16 : oz_len fx ≤ 16) (hj : j < oz_len fx)
    (he : j + 1 = oz_len fx → ∀ rs', oz_H (oz_cl tb o fx v (3 * (j + 1))) rs' → post (nI (oz_cl tb o fx v (3 * (j + 1))).length) (fn, ff, fk, nI (oz_cl tb o fx v (3 * (j + 1))).length, tb, od, wo, lb, gb, lf, rs'))
    (hs : j + 1 < oz_len fx → ∀ rs', oz_H (oz_cl tb o fx v (3 * (j + 1))) rs' → J (nI (oz_sel fx (j + 1))) (nI (j + 1)) fn ff fk (nI (oz_cl tb o fx v (3 * (j + 1))).length) tb od wo lb gb lf rs') :
    ∀ d f, f + d = 3 → ∀ rs, oz_H (oz_cl tb o fx v (3 * j + f)) rs → wX_countRests_37 post J (nI v) (nI o) (nI fx) (nI (oz_sel fx j)) (nI j) (d + 1) (nI f) fn ff fk (nI (oz_cl tb o fx v (3 * j + f)).length) tb od wo lb gb lf rs := by
  have hle := oz_sel_le fx j
  intro d
  induction d with
  | zero =>
    intro f hf rs hH
    have e3 : f = 3 := by omega
    subst e3
    have h3 : (3 : Int32) ≤ nI 3 := by decide
    refine br_t h3 ?_
    by_cases z : j + 1 = oz_len fx
    · have e : oz_sel fx j = fx := by
        have := oz_sel_end fx hfx
        rw [← z, Nat.add_sub_cancel] at this
        exact this
      exact br_t (congrArg nI e) (he z rs hH)
    · have hne : ¬ nI (oz_sel fx j) = nI fx := by
        rw [nI_eq (by omega) (by omega)]
        exact oz_sel_ne fx hfx j (by omega) (by omega)
      exact br_f hne (nm_r (oz_nxI fx hfx _ (by omega)) (nm_r (nI_1 j) (hs (by omega) rs hH)))
  | succ d ih =>
    intro f hf rs hH
    have h3 : ¬ (3 : Int32) ≤ nI f := nI_ge (b := 3) (by omega) (by decide)
    have hl := oz_sq_len (oz_ck tb o fx) (oz_cd tb o fx v) (3 * j + f)
    refine br_f h3 ⟨vp_in_nI (by omega) (by decide), ?_⟩
    rw [nI_clamp (by omega)]
    refine ox_add _ (tb f) (oz_sel fx j) o v (oz_cl tb o fx v (3 * j + f)) rs (by omega) ho hv hH ?_ ?_
    · show (oz_sq _ _ _).length < 64
      omega
    · rw [← oz_cl_s tb o fx v j f (by omega)]
      exact fun rs' h => nm_r (nI_1 f) (ih (f + 1) (by omega) rs' h)
theorem ox_cnt27 (post : Int32 → SX → Prop) (o fx v : Nat) (ho : o < 32) (hfx : fx < 32) (hv : v < 5) (h16 : oz_len fx ≤ 16)
    (hp : ∀ rs', post (nI (oz_cl tb o fx v (3 * oz_len fx)).length) (fn, ff, fk, nI (oz_cl tb o fx v (3 * oz_len fx)).length, tb, od, wo, lb, gb, lf, rs')) :
    ∀ d j, j + d + 1 = oz_len fx → ∀ rs, oz_H (oz_cl tb o fx v (3 * j)) rs → wX_countRests_27 post (nI v) (nI o) (nI fx) (d + 1) (nI (oz_sel fx j)) (nI j) fn ff fk (nI (oz_cl tb o fx v (3 * j)).length) tb od wo lb gb lf rs := by
  intro d
  induction d with
  | zero =>
    intro j hj rs hH
    have h32 : ¬ (32 : Int32) ≤ nI j := nI_ge (b := 32) (by omega) (by decide)
    refine br_f h32 ⟨4, ox_cnt37 post _ o fx v j ho hfx hv h16 (by omega) (fun z => ?_) (fun z => absurd z (by omega)) 3 0 rfl rs hH⟩
    rw [z]
    exact fun rs' _ => hp rs'
  | succ d ih =>
    intro j hj rs hH
    have h32 : ¬ (32 : Int32) ≤ nI j := nI_ge (b := 32) (by omega) (by decide)
    exact br_f h32 ⟨4, ox_cnt37 post _ o fx v j ho hfx hv h16 (by omega) (fun z => absurd z (by omega)) (fun _ rs' h => ih (j + 1) (by omega) rs' h) 3 0 rfl rs hH⟩
theorem oz_fx16 {F S v : Nat} (hF : F < 32) (hv : v < 5) : oz_len (oz_co F (S ||| 2 ^ v)) ≤ 16 := by
  have h := oz_co_le F (S ||| 2 ^ v)
  refine oz_len16 _ (by omega) v hv ?_
  rw [oz_co_t hF, Nat.testBit_or, Nat.testBit_two_pow_self]
  simp
theorem ox_cnt (post : Int32 → SX → Prop) (F S v : Nat) (fo : Int32) (rs : Nat → Int32) (hF : F < 32) (hS : S < 32) (hv : v < 5)
    (hp : ∀ fo' rs', post (nI (oz_W tb F S v)) (fn, nI F, fk, fo', tb, od, wo, lb, gb, lf, rs')) :
    wpX_countRests post (fn, nI F, fk, fo, tb, od, wo, lb, gb, lf, rs) (nI S) (nI v) := by
  have ho : S ||| 2 ^ v < 32 := oz_or32 hS (oz_p32 hv)
  have hc := oz_co_le F (S ||| 2 ^ v)
  have hfx : oz_co F (S ||| 2 ^ v) < 32 := by omega
  have h0 := (oz_len_in _ hfx).1
  refine nm_r (oz_orI hv) (nm_r (oz_coI F hF _ ho) ⟨oz_len (oz_co F (S ||| 2 ^ v)) - 1 + 1, ?_⟩)
  exact ox_cnt27 post (S ||| 2 ^ v) (oz_co F (S ||| 2 ^ v)) v ho hfx hv (oz_fx16 hF hv) (fun rs' => hp _ rs') (oz_len (oz_co F (S ||| 2 ^ v)) - 1) 0 (by omega) rs (oz_H0 rs)
end
theorem oz_W_le (tb : Nat → Int32) {F S v : Nat} (hF : F < 32) (hv : v < 5) : oz_W tb F S v ≤ 48 := by
  have h1 := oz_fx16 (S := S) hF hv
  have h2 := oz_sq_len (oz_ck tb (S ||| 2 ^ v) (oz_co F (S ||| 2 ^ v))) (oz_cd tb (S ||| 2 ^ v) (oz_co F (S ||| 2 ^ v)) v) (3 * oz_len (oz_co F (S ||| 2 ^ v)))
  show (oz_sq _ _ _).length ≤ 48
  omega
end
section
/-! orders as lists; masks of lists; sizes; least sums -/
def oz_mk : List Nat → Nat
  | [] => 0
  | v :: r => 2 ^ v ||| oz_mk r
theorem oz_mk_t (l : List Nat) (x : Nat) : (oz_mk l).testBit x = true ↔ x ∈ l := by
  induction l with
  | nil => simp [oz_mk]
  | cons v r ih =>
    show (2 ^ v ||| oz_mk r).testBit x = true ↔ _
    rw [Nat.testBit_or, Nat.testBit_two_pow, Bool.or_eq_true, ih, List.mem_cons, decide_eq_true_iff]
    constructor
    · rintro (h | h)
      · exact Or.inl h.symm
      · exact Or.inr h
    · rintro (h | h)
      · exact Or.inl h.symm
      · exact Or.inr h
theorem oz_ext {a b : Nat} (h : ∀ x, a.testBit x = true ↔ b.testBit x = true) : a = b := by
  apply Nat.eq_of_testBit_eq
  intro x
  have := h x
  cases ha : a.testBit x <;> cases hb : b.testBit x
  · rfl
  · rw [ha, hb] at this; exact absurd (this.mpr rfl) (by decide)
  · rw [ha, hb] at this; exact absurd (this.mp rfl) (by decide)
  · rfl
/-- l holds every number of the mask S once -/
def oz_PS (S : Nat) (l : List Nat) : Prop := l.Nodup ∧ ∀ x, x ∈ l ↔ S.testBit x = true
theorem oz_PS_mk {S : Nat} {l : List Nat} (h : oz_PS S l) : oz_mk l = S := oz_ext (fun x => by rw [oz_mk_t, h.2])
theorem oz_PS_of {l : List Nat} (h : l.Nodup) : oz_PS (oz_mk l) l := ⟨h, fun x => (oz_mk_t l x).symm⟩
theorem oz_PS_nil : oz_PS 0 [] := ⟨List.nodup_nil, fun x => by simp⟩
theorem oz_er_t' {S v x : Nat} (h : S < 32) : (oz_er S v).testBit x = true ↔ S.testBit x = true ∧ x ≠ v := by
  rw [oz_er_t h, Bool.and_eq_true, decide_eq_true_iff]
theorem oz_co_t' {F S x : Nat} (h : F < 32) : (oz_co F S).testBit x = true ↔ F.testBit x = true ∧ ¬ S.testBit x = true := by
  rw [oz_co_t h, Bool.and_eq_true, Bool.not_eq_true', Bool.not_eq_true]
theorem oz_PS_cons {S v : Nat} {r : List Nat} (hS : S < 32) : oz_PS S (v :: r) ↔ S.testBit v = true ∧ oz_PS (oz_er S v) r := by
  constructor
  · rintro ⟨hn, hm⟩
    rw [List.nodup_cons] at hn
    refine ⟨(hm v).mp List.mem_cons_self, hn.2, fun x => ?_⟩
    rw [oz_er_t' hS, ← hm x, List.mem_cons]
    constructor
    · intro h
      exact ⟨Or.inr h, fun e => hn.1 (e ▸ h)⟩
    · rintro ⟨h | h, e⟩
      · exact absurd h e
      · exact h
  · rintro ⟨hv, hn, hm⟩
    refine ⟨List.nodup_cons.mpr ⟨fun h => ?_, hn⟩, fun x => ?_⟩
    · exact ((oz_er_t' hS).mp ((hm v).mp h)).2 rfl
    · rw [List.mem_cons, hm x, oz_er_t' hS]
      constructor
      · rintro (h | h)
        · subst h; exact hv
        · exact h.1
      · intro h
        by_cases e : x = v
        · exact Or.inl e
        · exact Or.inr ⟨h, e⟩
theorem oz_PS_lt {S n : Nat} {l : List Nat} (h : oz_PS S l) (hS : S < 2 ^ n) {x : Nat} (hx : x ∈ l) : x < n := oz_tln hS ((h.2 x).mp hx)
theorem oz_PS_len5 {S : Nat} {l : List Nat} (h : oz_PS S l) (hS : S < 32) : l.length ≤ 5 := by
  have := oz_inj_len (fun a b : Nat => a = b) l (List.range 5) h.1 (fun a ha => ⟨a, List.mem_range.mpr (oz_PS_lt (n := 5) h hS ha), rfl⟩) (fun a a' b e e' => e.trans e'.symm)
  rw [List.length_range] at this
  exact this
theorem oz_PS_0 {S : Nat} {l : List Nat} (h : oz_PS S l) (h0 : S ≠ 0) : ∃ v r, l = v :: r := by
  cases l with
  | nil => exact absurd (oz_PS_mk h).symm h0
  | cons v r => exact ⟨v, r, rfl⟩
theorem oz_PS_z {l : List Nat} (h : oz_PS 0 l) : l = [] := by
  cases l with
  | nil => rfl
  | cons v r => exact absurd ((h.2 v).mp List.mem_cons_self) (by simp)
theorem oz_some {S n : Nat} (hS : S < 2 ^ n) (h0 : S ≠ 0) : ∃ v, v < n ∧ S.testBit v = true := by
  by_cases h : ∃ v, S.testBit v = true
  · obtain ⟨v, hv⟩ := h
    exact ⟨v, oz_tln hS hv, hv⟩
  · refine absurd (oz_ext fun x => ?_) h0
    simp only [Nat.zero_testBit]
    constructor
    · intro z; exact absurd ⟨x, z⟩ h
    · intro z; cases z
/-! sizes -/
def oz_szB (W : Nat → Nat → Nat) : List Nat → Nat
  | [] => 0
  | v :: r => W (oz_mk r) v + oz_szB W r
def oz_szA (W : Nat → Nat → Nat) (F : Nat) : List Nat → Nat
  | [] => 0
  | v :: r => W (oz_co F (oz_mk (v :: r))) v + oz_szA W F r
theorem oz_szB_le {W : Nat → Nat → Nat} (hW : ∀ S v, v < 5 → W S v ≤ 48) : ∀ l : List Nat, (∀ x, x ∈ l → x < 5) → oz_szB W l ≤ 48 * l.length := by
  intro l
  induction l with
  | nil => intro _; exact Nat.zero_le _
  | cons v r ih =>
    intro h
    have h1 := hW (oz_mk r) v (h v List.mem_cons_self)
    have h2 := ih (fun x hx => h x (List.mem_cons_of_mem _ hx))
    show W (oz_mk r) v + oz_szB W r ≤ 48 * (r.length + 1)
    omega
theorem oz_szA_le {W : Nat → Nat → Nat} {F : Nat} (hW : ∀ S v, v < 5 → W S v ≤ 48) : ∀ l : List Nat, (∀ x, x ∈ l → x < 5) → oz_szA W F l ≤ 48 * l.length := by
  intro l
  induction l with
  | nil => intro _; exact Nat.zero_le _
  | cons v r ih =>
    intro h
    have h1 := hW (oz_co F (oz_mk (v :: r))) v (h v List.mem_cons_self)
    have h2 := ih (fun x hx => h x (List.mem_cons_of_mem _ hx))
    show W (oz_co F (oz_mk (v :: r))) v + oz_szA W F r ≤ 48 * (r.length + 1)
    omega
theorem oz_szB_240 {W : Nat → Nat → Nat} (hW : ∀ S v, v < 5 → W S v ≤ 48) {S : Nat} {l : List Nat} (hS : S < 32) (h : oz_PS S l) : oz_szB W l ≤ 240 := by
  have h1 := oz_szB_le hW l (fun x hx => oz_PS_lt (n := 5) h hS hx)
  have h2 := oz_PS_len5 h hS
  omega
theorem oz_szA_240 {W : Nat → Nat → Nat} {F : Nat} (hW : ∀ S v, v < 5 → W S v ≤ 48) {S : Nat} {l : List Nat} (hS : S < 32) (h : oz_PS S l) : oz_szA W F l ≤ 240 := by
  have h1 := oz_szA_le (F := F) hW l (fun x hx => oz_PS_lt (n := 5) h hS hx)
  have h2 := oz_PS_len5 h hS
  omega
theorem oz_szAB (W : Nat → Nat → Nat) {F : Nat} (hF : F < 32) : ∀ pr post : List Nat, oz_PS F (pr.reverse ++ post) → oz_szB W (pr.reverse ++ post) = oz_szA W F pr + oz_szB W post := by
  intro pr
  induction pr with
  | nil => intro post _; show oz_szB W post = 0 + oz_szB W post; omega
  | cons v r ih =>
    intro post h
    rw [List.reverse_cons, List.append_assoc, List.singleton_append] at h ⊢
    rw [ih (v :: post) h]
    have e : oz_mk post = oz_co F (oz_mk (v :: r)) := by
      apply oz_ext
      intro x
      rw [oz_co_t' hF, oz_mk_t, oz_mk_t, ← h.2 x]
      obtain ⟨hn, _⟩ := h
      rw [List.nodup_append, List.nodup_cons] at hn
      obtain ⟨_, ⟨h2, _⟩, h3⟩ := hn
      rw [List.mem_append, List.mem_cons, List.mem_cons, List.mem_reverse]
      constructor
      · intro hx
        refine ⟨Or.inr (Or.inr hx), ?_⟩
        rintro (e | e)
        · subst e; exact h2 hx
        · exact h3 x (List.mem_reverse.mpr e) x (List.mem_cons_of_mem _ hx) rfl
      · rintro ⟨h | h | h, z⟩
        · exact absurd (Or.inr h) z
        · exact absurd (Or.inl h) z
        · exact h
    show oz_szA W F r + (W (oz_mk post) v + oz_szB W post) = (W (oz_co F (oz_mk (v :: r))) v + oz_szA W F r) + oz_szB W post
    rw [e]
    omega
/-! least and greatest -/
def oz_min (P : List Nat → Prop) (sz : List Nat → Nat) (m : Nat) : Prop := (∀ l, P l → m ≤ sz l) ∧ ∃ l, P l ∧ m = sz l
def oz_max (P : List Nat → Prop) (sz : List Nat → Nat) (m : Nat) : Prop := (∀ l, P l → sz l ≤ m) ∧ ∃ l, P l ∧ m = sz l
def oz_mn (c : Nat → Bool) (f : Nat → Nat) : Nat → Nat
  | 0 => 1000
  | v + 1 => if c v = true then min (oz_mn c f v) (f v) else oz_mn c f v
def oz_mx (c : Nat → Bool) (f : Nat → Nat) : Nat → Nat
  | 0 => 0
  | v + 1 => if c v = true then max (oz_mx c f v) (f v) else oz_mx c f v
theorem oz_mn_t {c : Nat → Bool} {f : Nat → Nat} {v : Nat} (h : c v = true) : oz_mn c f (v + 1) = min (oz_mn c f v) (f v) := if_pos h
theorem oz_mn_f {c : Nat → Bool} {f : Nat → Nat} {v : Nat} (h : c v = false) : oz_mn c f (v + 1) = oz_mn c f v := if_neg (by rw [h]; decide)
theorem oz_mx_t {c : Nat → Bool} {f : Nat → Nat} {v : Nat} (h : c v = true) : oz_mx c f (v + 1) = max (oz_mx c f v) (f v) := if_pos h
theorem oz_mx_f {c : Nat → Bool} {f : Nat → Nat} {v : Nat} (h : c v = false) : oz_mx c f (v + 1) = oz_mx c f v := if_neg (by rw [h]; decide)
theorem oz_mn_1000 (c : Nat → Bool) (f : Nat → Nat) : ∀ n, oz_mn c f n ≤ 1000 := by
  intro n
  induction n with
  | zero => exact Nat.le_refl _
  | succ n ih =>
    cases h : c n
    · rw [oz_mn_f h]; exact ih
    · rw [oz_mn_t h]; omega
theorem oz_mn_le (c : Nat → Bool) (f : Nat → Nat) : ∀ n v, v < n → c v = true → oz_mn c f n ≤ f v := by
  intro n
  induction n with
  | zero => intro v hv; exact absurd hv (Nat.not_lt_zero v)
  | succ n ih =>
    intro v hv hc
    by_cases e : v = n
    · subst e
      rw [oz_mn_t hc]; omega
    · have := ih v (by omega) hc
      cases h : c n
      · rw [oz_mn_f h]; exact this
      · rw [oz_mn_t h]; omega
theorem oz_mn_at (c : Nat → Bool) (f : Nat → Nat) : ∀ n, oz_mn c f n = 1000 ∨ ∃ v, v < n ∧ c v = true ∧ oz_mn c f n = f v := by
  intro n
  induction n with
  | zero => exact Or.inl rfl
  | succ n ih =>
    cases h : c n
    · rw [oz_mn_f h]
      rcases ih with ih | ⟨v, hv, hc, e⟩
      · exact Or.inl ih
      · exact Or.inr ⟨v, by omega, hc, e⟩
    · rw [oz_mn_t h]
      rcases Nat.le_total (oz_mn c f n) (f n) with z | z
      · rw [Nat.min_eq_left z]
        rcases ih with ih | ⟨v, hv, hc, e⟩
        · exact Or.inl ih
        · exact Or.inr ⟨v, by omega, hc, e⟩
      · rw [Nat.min_eq_right z]
        exact Or.inr ⟨n, by omega, h, rfl⟩
theorem oz_mx_le (c : Nat → Bool) (f : Nat → Nat) : ∀ n v, v < n → c v = true → f v ≤ oz_mx c f n := by
  intro n
  induction n with
  | zero => intro v hv; exact absurd hv (Nat.not_lt_zero v)
  | succ n ih =>
    intro v hv hc
    by_cases e : v = n
    · subst e
      rw [oz_mx_t hc]; omega
    · have := ih v (by omega) hc
      cases h : c n
      · rw [oz_mx_f h]; exact this
      · rw [oz_mx_t h]; omega
theorem oz_mx_at (c : Nat → Bool) (f : Nat → Nat) : ∀ n, oz_mx c f n = 0 ∨ ∃ v, v < n ∧ c v = true ∧ oz_mx c f n = f v := by
  intro n
  induction n with
  | zero => exact Or.inl rfl
  | succ n ih =>
    cases h : c n
    · rw [oz_mx_f h]
      rcases ih with ih | ⟨v, hv, hc, e⟩
      · exact Or.inl ih
      · exact Or.inr ⟨v, by omega, hc, e⟩
    · rw [oz_mx_t h]
      rcases Nat.le_total (f n) (oz_mx c f n) with z | z
      · rw [Nat.max_eq_left z]
        rcases ih with ih | ⟨v, hv, hc, e⟩
        · exact Or.inl ih
        · exact Or.inr ⟨v, by omega, hc, e⟩
      · rw [Nat.max_eq_right z]
        exact Or.inr ⟨n, by omega, h, rfl⟩
theorem oz_min_gen {S n : Nat} (hS : S < 2 ^ n) (h32 : S < 32) (h0 : S ≠ 0) (sz : List Nat → Nat) (w f : Nat → Nat)
    (hsz : ∀ v r, oz_PS S (v :: r) → sz (v :: r) = w v + sz r)
    (hf : ∀ v, v < n → S.testBit v = true → ∃ m, f v = w v + m ∧ oz_min (oz_PS (oz_er S v)) sz m)
    (hb : ∀ v, v < n → S.testBit v = true → f v < 1000) : oz_min (oz_PS S) sz (oz_mn S.testBit f n) := by
  constructor
  · intro l hl
    obtain ⟨v, r, rfl⟩ := oz_PS_0 hl h0
    rw [hsz v r hl]
    obtain ⟨hv, hr⟩ := (oz_PS_cons h32).mp hl
    have hvn := oz_tln hS hv
    obtain ⟨m, e, hm⟩ := hf v hvn hv
    have h1 := oz_mn_le S.testBit f n v hvn hv
    have h2 := hm.1 r hr
    omega
  · rcases oz_mn_at S.testBit f n with z | ⟨v, hvn, hv, e⟩
    · obtain ⟨v, hvn, hv⟩ := oz_some hS h0
      have h1 := oz_mn_le S.testBit f n v hvn hv
      have h2 := hb v hvn hv
      omega
    · obtain ⟨m, e1, _, r, hr, e2⟩ := hf v hvn hv
      have hl := (oz_PS_cons h32).mpr ⟨hv, hr⟩
      exact ⟨v :: r, hl, by rw [hsz v r hl, e, e1, e2]⟩
theorem oz_max_gen {S n : Nat} (hS : S < 2 ^ n) (h32 : S < 32) (h0 : S ≠ 0) (sz : List Nat → Nat) (w f : Nat → Nat)
    (hsz : ∀ v r, oz_PS S (v :: r) → sz (v :: r) = w v + sz r)
    (hf : ∀ v, v < n → S.testBit v = true → ∃ m, f v = w v + m ∧ oz_max (oz_PS (oz_er S v)) sz m) : oz_max (oz_PS S) sz (oz_mx S.testBit f n) := by
  constructor
  · intro l hl
    obtain ⟨v, r, rfl⟩ := oz_PS_0 hl h0
    rw [hsz v r hl]
    obtain ⟨hv, hr⟩ := (oz_PS_cons h32).mp hl
    have hvn := oz_tln hS hv
    obtain ⟨m, e, hm⟩ := hf v hvn hv
    have h1 := oz_mx_le S.testBit f n v hvn hv
    have h2 := hm.1 r hr
    omega
  · have : ∃ v, v < n ∧ S.testBit v = true ∧ oz_mx S.testBit f n = f v := by
      rcases oz_mx_at S.testBit f n with z | z
      · obtain ⟨v, hvn, hv⟩ := oz_some hS h0
        have h1 := oz_mx_le S.testBit f n v hvn hv
        exact ⟨v, hvn, hv, by omega⟩
      · exact z
    obtain ⟨v, hvn, hv, e⟩ := this
    obtain ⟨m, e1, _, r, hr, e2⟩ := hf v hvn hv
    have hl := (oz_PS_cons h32).mpr ⟨hv, hr⟩
    exact ⟨v :: r, hl, by rw [hsz v r hl, e, e1, e2]⟩
theorem oz_szB_c (W : Nat → Nat → Nat) {S : Nat} (h32 : S < 32) (v : Nat) (r : List Nat) (h : oz_PS S (v :: r)) : oz_szB W (v :: r) = W (oz_er S v) v + oz_szB W r := by
  show W (oz_mk r) v + oz_szB W r = _
  rw [oz_PS_mk ((oz_PS_cons h32).mp h).2]
theorem oz_szA_c (W : Nat → Nat → Nat) (F : Nat) {S : Nat} (v : Nat) (r : List Nat) (h : oz_PS S (v :: r)) : oz_szA W F (v :: r) = W (oz_co F S) v + oz_szA W F r := by
  show W (oz_co F (oz_mk (v :: r))) v + oz_szA W F r = _
  rw [oz_PS_mk h]
theorem oz_min_0 (sz : List Nat → Nat) (h : sz [] = 0) : oz_min (oz_PS 0) sz 0 := ⟨fun _ _ => Nat.zero_le _, [], oz_PS_nil, h.symm⟩
theorem oz_max_0 (sz : List Nat → Nat) (h : sz [] = 0) : oz_max (oz_PS 0) sz 0 := ⟨fun l hl => by rw [oz_PS_z hl, h]; exact Nat.le_refl 0, [], oz_PS_nil, h.symm⟩
theorem oz_min_u {P : List Nat → Prop} {sz : List Nat → Nat} {a b : Nat} (h : oz_min P sz a) (h' : oz_min P sz b) : a = b := by
  obtain ⟨h1, l, hl, e⟩ := h
  obtain ⟨h1', l', hl', e'⟩ := h'
  have := h1 l' hl'
  have := h1' l hl
  omega
theorem oz_max_u {P : List Nat → Prop} {sz : List Nat → Nat} {a b : Nat} (h : oz_max P sz a) (h' : oz_max P sz b) : a = b := by
  obtain ⟨h1, l, hl, e⟩ := h
  obtain ⟨h1', l', hl', e'⟩ := h'
  have := h1 l' hl'
  have := h1' l hl
  omega
/-- the least with a cap of 1000 -/
def oz_minD (P : List Nat → Prop) (sz : List Nat → Nat) (m : Nat) : Prop := m ≤ 1000 ∧ (∀ l, P l → m ≤ sz l) ∧ (m = 1000 ∨ ∃ l, P l ∧ m = sz l)
theorem oz_minD_u {P : List Nat → Prop} {sz : List Nat → Nat} {a b : Nat} (h : oz_minD P sz a) (h' : oz_minD P sz b) : a = b := by
  obtain ⟨h1, h2, h3⟩ := h
  obtain ⟨h1', h2', h3'⟩ := h'
  have k1 : b ≤ a := by
    rcases h3 with e | ⟨l, hl, e⟩
    · omega
    · have := h2' l hl; omega
  have k2 : a ≤ b := by
    rcases h3' with e | ⟨l, hl, e⟩
    · omega
    · have := h2 l hl; omega
  omega
end
section
/-! all orders, smallest first; the step to the next one -/
def oz_pm : Nat → List Nat → List (List Nat)
  | 0, _ => [[]]
  | k + 1, s => s.flatMap (fun v => (oz_pm k (s.erase v)).map (v :: ·))
theorem oz_pm_mem : ∀ (k : Nat) (s : List Nat), s.Nodup → s.length = k → ∀ l : List Nat, l ∈ oz_pm k s ↔ l.Nodup ∧ ∀ x, x ∈ l ↔ x ∈ s := by
  intro k
  induction k with
  | zero =>
    intro s hs hk l
    have e : s = [] := List.eq_nil_of_length_eq_zero hk
    subst e
    show l ∈ [[]] ↔ _
    rw [List.mem_singleton]
    constructor
    · intro e; subst e; exact ⟨List.nodup_nil, fun x => Iff.rfl⟩
    · rintro ⟨_, h⟩
      cases l with
      | nil => rfl
      | cons v r => exact absurd ((h v).mp List.mem_cons_self) (by simp)
  | succ k ih =>
    intro s hs hk l
    show l ∈ s.flatMap (fun v => (oz_pm k (s.erase v)).map (v :: ·)) ↔ _
    rw [List.mem_flatMap]
    constructor
    · rintro ⟨v, hv, hl⟩
      obtain ⟨r, hr, rfl⟩ := List.mem_map.mp hl
      obtain ⟨hn, hm⟩ := (ih (s.erase v) (hs.erase v) (by rw [List.length_erase_of_mem hv]; omega) r).mp hr
      refine ⟨List.nodup_cons.mpr ⟨fun z => ?_, hn⟩, fun x => ?_⟩
      · exact ((List.Nodup.mem_erase_iff hs).mp ((hm v).mp z)).1 rfl
      · rw [List.mem_cons, hm x, List.Nodup.mem_erase_iff hs]
        constructor
        · rintro (e | e)
          · subst e; exact hv
          · exact e.2
        · intro h
          by_cases e : x = v
          · exact Or.inl e
          · exact Or.inr ⟨e, h⟩
    · rintro ⟨hn, hm⟩
      cases l with
      | nil =>
        cases s with
        | nil => exact absurd hk (by simp)
        | cons v r => exact absurd ((hm v).mpr List.mem_cons_self) (by simp)
      | cons v r =>
        have hv := (hm v).mp List.mem_cons_self
        rw [List.nodup_cons] at hn
        refine ⟨v, hv, List.mem_map.mpr ⟨r, ?_, rfl⟩⟩
        refine (ih (s.erase v) (hs.erase v) (by rw [List.length_erase_of_mem hv]; omega) r).mpr ⟨hn.2, fun x => ?_⟩
        rw [List.Nodup.mem_erase_iff hs, ← hm x, List.mem_cons]
        constructor
        · intro h
          exact ⟨fun e => hn.1 (e ▸ h), Or.inr h⟩
        · rintro ⟨e, h | h⟩
          · exact absurd h e
          · exact h
theorem oz_full_t (n x : Nat) : (2 ^ n - 1).testBit x = true ↔ x < n := by
  rw [Nat.testBit_two_pow_sub_one, decide_eq_true_iff]
theorem oz_pm_PS {n : Nat} {l : List Nat} : l ∈ oz_pm n (List.range n) ↔ oz_PS (2 ^ n - 1) l := by
  rw [oz_pm_mem n (List.range n) List.nodup_range List.length_range l]
  constructor
  · rintro ⟨h1, h2⟩
    exact ⟨h1, fun x => by rw [h2 x, List.mem_range, oz_full_t]⟩
  · rintro ⟨h1, h2⟩
    exact ⟨h1, fun x => by rw [h2 x, List.mem_range, oz_full_t]⟩
/-! the next order, as the reference finds it -/
def oz_fi (l : List Nat) : Nat → Option Nat
  | 0 => none
  | i + 1 => if l.getD i 0 ≤ l.getD (i + 1) 0 then some i else oz_fi l i
def oz_fj (l : List Nat) (i : Nat) : Nat → Nat
  | 0 => 0
  | j + 1 => if j + 1 ≤ i then j + 1 else if l.getD i 0 ≤ l.getD (j + 1) 0 then j + 1 else oz_fj l i j
def oz_sw (l : List Nat) (i j : Nat) : List Nat := (l.set i (l.getD j 0)).set j (l.getD i 0)
def oz_rv : Nat → List Nat → Nat → Nat → List Nat
  | 0, l, _, _ => l
  | d + 1, l, lo, hi => if hi ≤ lo then l else oz_rv d (oz_sw l lo hi) (lo + 1) (hi - 1)
def oz_next (n : Nat) (l : List Nat) : Option (List Nat) :=
  match oz_fi l (n - 1) with
  | none => none
  | some i => some (oz_rv n (oz_sw l i (oz_fj l i (n - 1))) (i + 1) (n - 1))
def oz_chk (n : Nat) : List (List Nat) → Bool
  | [] => false
  | [a] => oz_next n a == none
  | a :: b :: r => oz_next n a == some b && oz_chk n (b :: r)
theorem oz_chk1 : oz_chk 1 (oz_pm 1 (List.range 1)) = true := by decide +kernel
theorem oz_chk2 : oz_chk 2 (oz_pm 2 (List.range 2)) = true := by decide +kernel
theorem oz_chk3 : oz_chk 3 (oz_pm 3 (List.range 3)) = true := by decide +kernel
theorem oz_chk4 : oz_chk 4 (oz_pm 4 (List.range 4)) = true := by decide +kernel
theorem oz_chk5 : oz_chk 5 (oz_pm 5 (List.range 5)) = true := by decide +kernel
theorem oz_chkn : ∀ n, 1 ≤ n → n ≤ 5 → oz_chk n (oz_pm n (List.range n)) = true := by
  intro n h1 h5
  have : n = 1 ∨ n = 2 ∨ n = 3 ∨ n = 4 ∨ n = 5 := by omega
  rcases this with rfl | rfl | rfl | rfl | rfl
  · exact oz_chk1
  · exact oz_chk2
  · exact oz_chk3
  · exact oz_chk4
  · exact oz_chk5
theorem oz_pm120 : ∀ n, n < 6 → (oz_pm n (List.range n)).length ≤ 120 := by decide +kernel
theorem oz_pmhd : ∀ n, n < 6 → (oz_pm n (List.range n)).head? = some (List.range n) := by decide +kernel
/-! the least over a list of orders -/
def oz_fm (P : List Nat → Bool) (sz : List Nat → Nat) : List (List Nat) → Nat → Nat
  | [], a => a
  | l :: ls, a => oz_fm P sz ls (if P l = true then min a (sz l) else a)
theorem oz_fm_t (P : List Nat → Bool) (sz : List Nat → Nat) : ∀ ls a, oz_fm P sz ls a ≤ a ∧ (∀ l, l ∈ ls → P l = true → oz_fm P sz ls a ≤ sz l) ∧ (oz_fm P sz ls a = a ∨ ∃ l, l ∈ ls ∧ P l = true ∧ oz_fm P sz ls a = sz l) := by
  intro ls
  induction ls with
  | nil => intro a; exact ⟨Nat.le_refl _, fun l hl => absurd hl (by simp), Or.inl rfl⟩
  | cons l ls ih =>
    intro a
    show oz_fm P sz ls (if P l = true then min a (sz l) else a) ≤ a ∧ _
    obtain ⟨h1, h2, h3⟩ := ih (if P l = true then min a (sz l) else a)
    have e : oz_fm P sz (l :: ls) a = oz_fm P sz ls (if P l = true then min a (sz l) else a) := rfl
    rw [e]
    by_cases hP : P l = true
    · rw [if_pos hP] at h1 h2 h3 ⊢
      refine ⟨by omega, fun l' hl' hP' => ?_, ?_⟩
      · rcases List.mem_cons.mp hl' with z | z
        · subst z; omega
        · exact h2 l' z hP'
      · rcases h3 with z | ⟨l', hl', hP', z⟩
        · rcases Nat.le_total a (sz l) with y | y
          · rw [Nat.min_eq_left y] at z ⊢; exact Or.inl z
          · rw [Nat.min_eq_right y] at z ⊢; exact Or.inr ⟨l, List.mem_cons_self, hP, z⟩
        · exact Or.inr ⟨l', List.mem_cons_of_mem _ hl', hP', z⟩
    · rw [if_neg hP] at h1 h2 h3 ⊢
      refine ⟨h1, fun l' hl' hP' => ?_, ?_⟩
      · rcases List.mem_cons.mp hl' with z | z
        · subst z; exact absurd hP' hP
        · exact h2 l' z hP'
      · rcases h3 with z | ⟨l', hl', hP', z⟩
        · exact Or.inl z
        · exact Or.inr ⟨l', List.mem_cons_of_mem _ hl', hP', z⟩
def oz_fx (sz : List Nat → Nat) : List (List Nat) → Nat → Nat
  | [], a => a
  | l :: ls, a => oz_fx sz ls (max a (sz l))
theorem oz_fx_t (sz : List Nat → Nat) : ∀ ls a, a ≤ oz_fx sz ls a ∧ (∀ l, l ∈ ls → sz l ≤ oz_fx sz ls a) ∧ (oz_fx sz ls a = a ∨ ∃ l, l ∈ ls ∧ oz_fx sz ls a = sz l) := by
  intro ls
  induction ls with
  | nil => intro a; exact ⟨Nat.le_refl _, fun l hl => absurd hl (by simp), Or.inl rfl⟩
  | cons l ls ih =>
    intro a
    obtain ⟨h1, h2, h3⟩ := ih (max a (sz l))
    have e : oz_fx sz (l :: ls) a = oz_fx sz ls (max a (sz l)) := rfl
    rw [e]
    refine ⟨by omega, fun l' hl' => ?_, ?_⟩
    · rcases List.mem_cons.mp hl' with z | z
      · subst z; omega
      · exact h2 l' z
    · rcases h3 with z | ⟨l', hl', z⟩
      · rcases Nat.le_total (sz l) a with y | y
        · rw [Nat.max_eq_left y] at z ⊢; exact Or.inl z
        · rw [Nat.max_eq_right y] at z ⊢; exact Or.inr ⟨l, List.mem_cons_self, z⟩
      · exact Or.inr ⟨l', List.mem_cons_of_mem _ hl', z⟩
theorem oz_fm_minD {n : Nat} (P : List Nat → Bool) (sz : List Nat → Nat) : oz_minD (fun l => oz_PS (2 ^ n - 1) l ∧ P l = true) sz (oz_fm P sz (oz_pm n (List.range n)) 1000) := by
  obtain ⟨h1, h2, h3⟩ := oz_fm_t P sz (oz_pm n (List.range n)) 1000
  refine ⟨h1, fun l hl => h2 l (oz_pm_PS.mpr hl.1) hl.2, ?_⟩
  rcases h3 with z | ⟨l, hl, hP, z⟩
  · exact Or.inl z
  · exact Or.inr ⟨l, ⟨oz_pm_PS.mp hl, hP⟩, z⟩
theorem oz_fm_min {n m : Nat} (sz : List Nat → Nat) (h : oz_min (oz_PS (2 ^ n - 1)) sz m) (hm : m ≤ 240) : oz_fm (fun _ => true) sz (oz_pm n (List.range n)) 1000 = m := by
  refine oz_minD_u (oz_fm_minD (fun _ => true) sz) ⟨by omega, fun l hl => h.1 l hl.1, Or.inr ?_⟩
  obtain ⟨_, l, hl, e⟩ := h
  exact ⟨l, ⟨hl, rfl⟩, e⟩
theorem oz_fx_max {n m : Nat} (sz : List Nat → Nat) (h : oz_max (oz_PS (2 ^ n - 1)) sz m) : oz_fx sz (oz_pm n (List.range n)) 0 = m := by
  obtain ⟨h1, h2, h3⟩ := oz_fx_t sz (oz_pm n (List.range n)) 0
  obtain ⟨k1, l, hl, e⟩ := h
  have a1 := h2 l (oz_pm_PS.mpr hl)
  rcases h3 with z | ⟨l', hl', z⟩
  · omega
  · have := k1 l' (oz_pm_PS.mp hl'); omega
/-! the first best order is the greedy one -/
def oz_GB (W : Nat → Nat → Nat) (g : Nat → Nat) : List Nat → Prop
  | [] => True
  | v :: r => (W (oz_mk r) v + g (oz_mk r) = g (oz_mk (v :: r)) ∧ ∀ u, u < v → (oz_mk (v :: r)).testBit u = true → W (oz_er (oz_mk (v :: r)) u) u + g (oz_er (oz_mk (v :: r)) u) ≠ g (oz_mk (v :: r))) ∧ oz_GB W g r
theorem oz_find_congr {α : Type} {p q : α → Bool} : ∀ l : List α, (∀ x, x ∈ l → p x = q x) → l.find? p = l.find? q := by
  intro l
  induction l with
  | nil => intro _; rfl
  | cons a l ih =>
    intro h
    rw [List.find?_cons, List.find?_cons, h a List.mem_cons_self, ih (fun x hx => h x (List.mem_cons_of_mem _ hx))]
theorem oz_first (W : Nat → Nat → Nat) (g : Nat → Nat) (N : Nat) (hg : ∀ S, S < N → oz_min (oz_PS S) (oz_szB W) (g S)) :
    ∀ (k : Nat) (s : List Nat) (S : Nat), S < N → S < 32 → oz_PS S s → s.length = k → s.Pairwise (· < ·) → ∀ l, (oz_pm k s).find? (fun l => oz_szB W l == g S) = some l → oz_PS S l ∧ oz_GB W g l := by
  intro k
  induction k with
  | zero =>
    intro s S hN h32 hs hk hp l hl
    have hl := List.mem_of_find?_eq_some hl
    have e : l = [] := List.mem_singleton.mp hl
    have e' : s = [] := List.eq_nil_of_length_eq_zero hk
    subst e e'
    exact ⟨hs, trivial⟩
  | succ k ih =>
    intro s S hN h32 hs hk hp l hl
    have hlen : ∀ v, v ∈ s → (s.erase v).length = k := fun v hv => by rw [List.length_erase_of_mem hv]; omega
    have hPS : ∀ v, v ∈ s → ∀ r, r ∈ oz_pm k (s.erase v) ↔ oz_PS (oz_er S v) r := by
      intro v hv r
      rw [oz_pm_mem k (s.erase v) (hs.1.erase v) (hlen v hv) r]
      unfold oz_PS
      have : ∀ x, x ∈ s.erase v ↔ (oz_er S v).testBit x = true := fun x => by
        rw [List.Nodup.mem_erase_iff hs.1, oz_er_t' h32, hs.2 x]
        exact And.comm
      simp only [this]
    have hcons : ∀ v, v ∈ s → ∀ r, oz_PS (oz_er S v) r → oz_PS S (v :: r) ∧ oz_szB W (v :: r) = W (oz_er S v) v + oz_szB W r := by
      intro v hv r hr
      have h := (oz_PS_cons h32).mpr ⟨(hs.2 v).mp hv, hr⟩
      exact ⟨h, oz_szB_c W h32 v r h⟩
    have hle : ∀ v, v ∈ s → oz_er S v < N := fun v hv => by have := oz_er_le S v; omega
    have hlow : ∀ v, v ∈ s → g S ≤ W (oz_er S v) v + g (oz_er S v) := by
      intro v hv
      obtain ⟨_, r, hr, e⟩ := hg (oz_er S v) (hle v hv)
      obtain ⟨h1, h2⟩ := hcons v hv r hr
      have := (hg S hN).1 _ h1
      omega
    have hl' : (s.flatMap (fun v => (oz_pm k (s.erase v)).map (v :: ·))).find? (fun l => oz_szB W l == g S) = some l := hl
    rw [List.find?_flatMap, List.findSome?_eq_some_iff] at hl'
    obtain ⟨l1, v, l2, es, hv, hpre⟩ := hl'
    have hvs : v ∈ s := by rw [es]; simp
    rw [List.find?_map, Option.map_eq_some_iff] at hv
    obtain ⟨r, hr, rfl⟩ := hv
    have hrm := (hPS v hvs r).mp (List.mem_of_find?_eq_some hr)
    have hre := List.find?_some hr
    simp only [Function.comp, beq_iff_eq] at hre
    obtain ⟨h1, h2⟩ := hcons v hvs r hrm
    have h3 := (hg (oz_er S v) (hle v hvs)).1 r hrm
    have h4 := hlow v hvs
    have hmr := oz_PS_mk hrm
    have hmv := oz_PS_mk h1
    have hr' : (oz_pm k (s.erase v)).find? (fun l => oz_szB W l == g (oz_er S v)) = some r := by
      rw [← hr]
      apply oz_find_congr
      intro x hx
      obtain ⟨_, y2⟩ := hcons v hvs x ((hPS v hvs x).mp hx)
      rw [Bool.eq_iff_iff]
      simp only [Function.comp, beq_iff_eq]
      omega
    have hbits : ∀ x, x ∈ s.erase v ↔ (oz_er S v).testBit x = true := fun x => by
      rw [List.Nodup.mem_erase_iff hs.1, oz_er_t' h32, hs.2 x]
      exact And.comm
    obtain ⟨_, hG⟩ := ih (s.erase v) (oz_er S v) (hle v hvs) (by have := oz_er_le S v; omega) ⟨hs.1.erase v, hbits⟩ (hlen v hvs) (hp.sublist List.erase_sublist) r hr'
    refine ⟨h1, ⟨⟨?_, ?_⟩, hG⟩⟩
    · rw [hmr, hmv]; omega
    · intro u hu hub
      rw [hmv] at hub ⊢
      intro z
      have hus : u ∈ s := (hs.2 u).mpr hub
      have hu1 : u ∈ l1 := by
        rw [es] at hus hp
        rw [List.mem_append, List.mem_cons] at hus
        rcases hus with y | y | y
        · exact y
        · omega
        · rw [List.pairwise_append, List.pairwise_cons] at hp
          have := hp.2.1.1 u y
          omega
      have hnone := hpre u hu1
      rw [List.find?_map, Option.map_eq_none_iff, List.find?_eq_none] at hnone
      obtain ⟨_, r', hr', e'⟩ := hg (oz_er S u) (hle u hus)
      obtain ⟨_, y2⟩ := hcons u hus r' hr'
      have := hnone r' ((hPS u hus r').mpr hr')
      simp only [Function.comp, beq_iff_eq] at this
      omega
/-! the least with a variable on a place -/
def oz_on (S : Nat) : Nat → Nat
  | 0 => 0
  | k + 1 => oz_on S k + (if S.testBit k = true then 1 else 0)
theorem oz_on_le (S : Nat) : ∀ k, oz_on S k ≤ k := by
  intro k
  induction k with
  | zero => exact Nat.le_refl 0
  | succ k ih =>
    show oz_on S k + (if S.testBit k = true then 1 else 0) ≤ _
    split <;> omega
theorem oz_on_f : ∀ S, S < 32 → oz_on S 5 = ((List.range 5).filter (fun x => S.testBit x)).length := by decide +kernel
theorem oz_PS_on {S : Nat} {l : List Nat} (hS : S < 32) (h : oz_PS S l) : l.length = oz_on S 5 := by
  rw [oz_on_f S hS]
  refine oz_len_eq h.1 (List.nodup_range.filter _) (fun x => ?_)
  rw [h.2 x, List.mem_filter, List.mem_range]
  exact ⟨fun z => ⟨oz_tlt hS z, z⟩, fun z => z.2⟩
theorem oz_on_full : ∀ n, n ≤ 5 → oz_on (2 ^ n - 1) 5 = n := by decide +kernel
theorem oz_full32 {n : Nat} (h : n ≤ 5) : 2 ^ n - 1 < 32 := by
  have : 2 ^ n ≤ 2 ^ 5 := Nat.pow_le_pow_right (by decide) h
  have e : (2 : Nat) ^ 5 = 32 := by decide
  omega
theorem oz_full_len {n : Nat} (h : n ≤ 5) {l : List Nat} (hl : oz_PS (2 ^ n - 1) l) : l.length = n := by
  rw [oz_PS_on (oz_full32 h) hl, oz_on_full n h]
theorem oz_rev_nd {l : List Nat} : l.reverse.Nodup ↔ l.Nodup := by
  unfold List.Nodup
  rw [List.pairwise_reverse]
  constructor
  · intro h; exact h.imp (fun h => h.symm)
  · intro h; exact h.imp (fun h => h.symm)
theorem oz_with (W : Nat → Nat → Nat) (n p var : Nat) (h5 : n ≤ 5) (hp : p < n) (hvar : var < n) (f : Nat → Nat)
    (hf : ∀ b, b < 2 ^ n → b.testBit var = false → ∃ m1 m2, f b = m1 + W b var + m2 ∧ oz_min (oz_PS (oz_er (oz_co (2 ^ n - 1) b) var)) (oz_szA W (2 ^ n - 1)) m1 ∧ oz_min (oz_PS b) (oz_szB W) m2) :
    oz_minD (fun l => oz_PS (2 ^ n - 1) l ∧ l.getD p 0 = var) (oz_szB W) (oz_mn (fun b => !b.testBit var && decide (oz_on b 5 = n - 1 - p)) f (2 ^ n)) := by
  have hF := oz_full32 h5
  have hpos : 0 < 2 ^ n := Nat.two_pow_pos n
  refine ⟨oz_mn_1000 _ _ _, ?_, ?_⟩
  · rintro l ⟨hl, hv⟩
    have hlen := oz_full_len h5 hl
    have hpl : p < l.length := by omega
    have e : l = (l.take p).reverse.reverse ++ var :: l.drop (p + 1) := by
      rw [List.reverse_reverse]
      conv => lhs; rw [← List.take_append_drop p l]
      rw [List.drop_eq_getElem_cons hpl]
      rw [List.getD_eq_getElem?_getD, List.getElem?_eq_getElem hpl] at hv
      rw [show l[p] = var from hv]
    generalize hpr : (l.take p).reverse = pr at e
    generalize hpo : l.drop (p + 1) = po at e
    have hpol : po.length = n - 1 - p := by rw [← hpo, List.length_drop]; omega
    subst e
    have hsz := oz_szAB W hF pr (var :: po) hl
    have hnd := hl.1
    rw [List.nodup_append, List.nodup_cons] at hnd
    obtain ⟨n1, ⟨n2, n3⟩, n4⟩ := hnd
    have hPo : oz_PS (oz_mk po) po := oz_PS_of n3
    have hblt : oz_mk po < 2 ^ n := oz_ltn (fun x hx => by
      have : x ∈ pr.reverse ++ var :: po := by
        rw [List.mem_append, List.mem_cons]
        exact Or.inr (Or.inr ((oz_mk_t po x).mp hx))
      exact (oz_full_t n x).mp ((hl.2 x).mp this))
    have hbv : (oz_mk po).testBit var = false := by
      cases z : (oz_mk po).testBit var
      · rfl
      · exact absurd ((oz_mk_t po var).mp z) n2
    have hPr : oz_PS (oz_er (oz_co (2 ^ n - 1) (oz_mk po)) var) pr := by
      refine ⟨oz_rev_nd.mp n1, fun x => ?_⟩
      have hc : oz_co (2 ^ n - 1) (oz_mk po) < 32 := by have := oz_co_le (2 ^ n - 1) (oz_mk po); omega
      rw [oz_er_t' hc, oz_co_t' hF, oz_mk_t, ← hl.2 x, List.mem_append, List.mem_cons, List.mem_reverse]
      constructor
      · intro hx
        refine ⟨⟨Or.inl hx, fun z => ?_⟩, fun z => ?_⟩
        · exact n4 x (List.mem_reverse.mpr hx) x (List.mem_cons_of_mem _ z) rfl
        · exact n4 x (List.mem_reverse.mpr hx) var List.mem_cons_self z
      · rintro ⟨⟨z | z | z, y⟩, w⟩
        · exact z
        · exact absurd z w
        · exact absurd z y
    have hc : (!(oz_mk po).testBit var && decide (oz_on (oz_mk po) 5 = n - 1 - p)) = true := by
      rw [hbv, ← oz_PS_on (by omega) hPo, hpol]
      simp
    obtain ⟨m1, m2, e1, k1, k2⟩ := hf (oz_mk po) hblt hbv
    have h1 := oz_mn_le (fun b => !b.testBit var && decide (oz_on b 5 = n - 1 - p)) f (2 ^ n) (oz_mk po) hblt hc
    have h2 := k1.1 pr hPr
    have h3 := k2.1 po hPo
    have h4 : oz_szB W (var :: po) = W (oz_mk po) var + oz_szB W po := rfl
    omega
  · rcases oz_mn_at (fun b => !b.testBit var && decide (oz_on b 5 = n - 1 - p)) f (2 ^ n) with z | ⟨b, hb, hc, e⟩
    · exact Or.inl z
    · right
      have hc' : b.testBit var = false ∧ oz_on b 5 = n - 1 - p := by
        rw [Bool.and_eq_true, Bool.not_eq_true', decide_eq_true_iff] at hc
        exact hc
      obtain ⟨m1, m2, e1, ⟨_, pr, hpr, em1⟩, ⟨_, po, hpo, em2⟩⟩ := hf b hb hc'.1
      have hb32 : b < 32 := by omega
      have hc32 : oz_co (2 ^ n - 1) b < 32 := by have := oz_co_le (2 ^ n - 1) b; omega
      have hl : oz_PS (2 ^ n - 1) (pr.reverse ++ var :: po) := by
        constructor
        · rw [List.nodup_append, List.nodup_cons]
          refine ⟨oz_rev_nd.mpr hpr.1, ⟨fun z => ?_, hpo.1⟩, fun x hx y hy exy => ?_⟩
          · rw [hpo.2 var, hc'.1] at z; cases z
          · subst exy
            have hx := (hpr.2 x).mp (List.mem_reverse.mp hx)
            rw [oz_er_t' hc32, oz_co_t' hF] at hx
            rcases List.mem_cons.mp hy with z | z
            · exact hx.2 z
            · exact hx.1.2 ((hpo.2 x).mp z)
        · intro x
          rw [List.mem_append, List.mem_cons, List.mem_reverse, hpr.2 x, hpo.2 x, oz_er_t' hc32, oz_co_t' hF]
          constructor
          · rintro (z | z | z)
            · exact z.1.1
            · subst z; exact (oz_full_t n x).mpr hvar
            · exact (oz_full_t n x).mpr (oz_tln hb z)
          · intro z
            by_cases y : x = var
            · exact Or.inr (Or.inl y)
            · by_cases w : b.testBit x = true
              · exact Or.inr (Or.inr w)
              · exact Or.inl ⟨⟨z, w⟩, y⟩
      refine ⟨pr.reverse ++ var :: po, ⟨hl, ?_⟩, ?_⟩
      · have h1 := oz_full_len h5 hl
        have h2 := oz_PS_on hb32 hpo
        rw [List.length_append, List.length_cons, List.length_reverse] at h1
        have h3 : pr.length = p := by omega
        rw [List.getD_eq_getElem?_getD, List.getElem?_append_right (by rw [List.length_reverse]; omega), List.length_reverse, h3, Nat.sub_self]
        rfl
      · rw [oz_szAB W hF pr (var :: po) hl, e, e1, em1, em2]
        have h4 : oz_szB W (var :: po) = W (oz_mk po) var + oz_szB W po := rfl
        have h5 : oz_mk po = b := oz_PS_mk hpo
        rw [h4, h5]
        omega
end
section
/-! X: the sums over sets, and workOut -/
def oz_Gd (n : Nat) (tb wo lb gb lf : Nat → Int32) : Prop :=
  (∀ S, S < 2 ^ n → ∀ v, v < n → S.testBit v = false → wo (5 * S + v) = nI (oz_W tb (2 ^ n - 1) S v)) ∧
  (∀ S, S < 2 ^ n → ∃ m, lb S = nI m ∧ oz_min (oz_PS S) (oz_szB (oz_W tb (2 ^ n - 1))) m) ∧
  (∀ S, S < 2 ^ n → ∃ m, gb S = nI m ∧ oz_max (oz_PS S) (oz_szB (oz_W tb (2 ^ n - 1))) m) ∧
  (∀ S, S < 2 ^ n → ∃ m, lf S = nI m ∧ oz_min (oz_PS S) (oz_szA (oz_W tb (2 ^ n - 1)) (2 ^ n - 1)) m)
theorem oz_pw32 {n : Nat} (h : n ≤ 5) : 2 ^ n ≤ 32 := (Nat.pow_le_pow_right (by decide) h : 2 ^ n ≤ 2 ^ 5)
theorem oz_W48 (tb : Nat → Int32) {n : Nat} (h : n ≤ 5) : ∀ S v, v < 5 → oz_W tb (2 ^ n - 1) S v ≤ 48 := fun S _ hv => oz_W_le tb (S := S) (oz_full32 h) hv
theorem oz_5I (S v : Nat) : (5 : Int32) * nI S + nI v = nI (5 * S + v) := by
  show nI 5 * nI S + nI v = _
  rw [pk_mul, nI_add]
theorem oz_mx_lt {c : Nat → Bool} {f : Nat → Nat} {B : Nat} : ∀ n, (∀ v, v < n → c v = true → f v ≤ B) → oz_mx c f n ≤ B := by
  intro n
  induction n with
  | zero => intro _; exact Nat.zero_le _
  | succ n ih =>
    intro h
    have h1 := ih (fun v hv => h v (by omega))
    cases hc : c n
    · rw [oz_mx_f hc]; exact h1
    · rw [oz_mx_t hc]
      have := h n (by omega) hc
      omega
section
variable {fn ff fk fo : Int32} {tb od wo lb gb lf rs : Nat → Int32}
theorem ox_sB79 (post : SX → Prop) (J : Int32 → Int32 → Int32 → Prop) (x1 : Int32) (v E wv kv a : Nat) (z0 : Int32) (hE : E < 32) (hg : gb E = nI kv) (hb : wv + kv < 1000) (ha : a ≤ 1000)
    (hJ : J z0 (nI (max a (wv + kv))) (nI (v + 1))) : wX_sumBehind_79 post J x1 (nI a) (nI v) (nI E) (nI wv) z0 fn ff fk fo tb od wo lb gb lf rs := by
  unfold wX_sumBehind_79
  rw [nI_clamp (n := E) (by omega), hg, nI_add]
  refine ⟨vp_in_nI hE (by decide), pk_le (wv + kv) a (fun h => nm_r (nI_1 v) ?_) (fun h => ⟨vp_in_nI hE (by decide), nm_e (nm_r (nI_1 v) ?_)⟩)⟩
  · rw [Nat.max_eq_left h] at hJ; exact hJ
  · rw [Nat.max_eq_right (by omega)] at hJ; exact hJ
theorem ox_sB9 (post : SX → Prop) (S n : Nat) (hS : S < 32) (h5 : n ≤ 5) (w l k : Nat → Nat)
    (hw : ∀ v, v < n → S.testBit v = true → wo (5 * oz_er S v + v) = nI (w v) ∧ lb (oz_er S v) = nI (l v) ∧ gb (oz_er S v) = nI (k v) ∧ w v + l v < 1000 ∧ w v + k v < 1000)
    (hp : post (nI n, ff, fk, fo, tb, od, wo, upd lb S (nI (oz_mn S.testBit (fun v => w v + l v) n)), upd gb S (nI (oz_mx S.testBit (fun v => w v + k v) n)), lf, rs)) :
    ∀ d v, v + d = n → wX_sumBehind_9 post (nI S) (nI n) ff fk fo tb od wo lb gb lf rs (d + 1) (nI (oz_mn S.testBit (fun v => w v + l v) v)) (nI (oz_mx S.testBit (fun v => w v + k v) v)) (nI v) := by
  intro d
  induction d with
  | zero =>
    intro v hv
    have e : v = n := by omega
    subst e
    refine pk_le v v (fun _ => ⟨vp_in_nI hS (by decide), nm_r ?_ ⟨vp_in_nI hS (by decide), nm_r ?_ hp⟩⟩) (fun z => absurd z (by omega))
    · rw [nI_clamp (by omega)]
    · rw [nI_clamp (by omega)]
  | succ d ih =>
    intro v hv
    have hv5 : v < 5 := by omega
    have hE := oz_er_le S v
    refine pk_le n v (fun z => absurd z (by omega)) (fun _ => ?_)
    have K := ih (v + 1) (by omega)
    cases hb : S.testBit v
    · rw [oz_mn_f hb, oz_mx_f hb] at K
      exact br_t ((oz_bitI hS hv5).mpr hb) (nm_r (nI_1 v) K)
    · have hb' : ¬ ((((nI S).toUInt32 >>> ((nI v).toUInt32 &&& Int32.toUInt32 31)).toInt32 &&& 1) = 0) := fun z => by
        rw [oz_bitI hS hv5, hb] at z; cases z
      obtain ⟨h1, h2, h3, h4, h6⟩ := hw v (by omega) hb
      have hm := oz_mn_1000 S.testBit (fun v => w v + l v) v
      have hx : oz_mx S.testBit (fun v => w v + k v) v ≤ 1000 := oz_mx_lt v (fun u hu hc => by
        have := hw u (by omega) hc
        show w u + k u ≤ 1000
        omega)
      rw [oz_mn_t hb, oz_mx_t hb] at K
      refine br_f hb' (nm_r (oz_erI S hS v hv5) ?_)
      rw [oz_5I, nI_clamp (n := 5 * oz_er S v + v) (by omega), nI_clamp (n := oz_er S v) (by omega), h1, h2]
      refine ⟨vp_in_nI (by omega) (by decide), nm_e ⟨vp_in_nI (by omega) (by decide), ?_⟩⟩
      rw [nI_add]
      refine pk_le _ (w v + l v) (fun h => ?_) (fun h => ⟨vp_in_nI (by omega) (by decide), ?_⟩)
      · refine ox_sB79 post _ _ v (oz_er S v) (w v) (k v) _ _ (by omega) h3 h6 hx ?_
        rw [Nat.min_eq_left h] at K
        exact K
      · refine ox_sB79 post _ _ v (oz_er S v) (w v) (k v) _ _ (by omega) h3 h6 hx ?_
        rw [Nat.min_eq_right (by omega)] at K
        exact K
theorem ox_sB (post : SX → Prop) (S n : Nat) (hS : S < 32) (h5 : n ≤ 5) (w l k : Nat → Nat)
    (hw : ∀ v, v < n → S.testBit v = true → wo (5 * oz_er S v + v) = nI (w v) ∧ lb (oz_er S v) = nI (l v) ∧ gb (oz_er S v) = nI (k v) ∧ w v + l v < 1000 ∧ w v + k v < 1000)
    (hp : post (nI n, ff, fk, fo, tb, od, wo, upd lb S (nI (oz_mn S.testBit (fun v => w v + l v) n)), upd gb S (nI (oz_mx S.testBit (fun v => w v + k v) n)), lf, rs)) :
    wpX_sumBehind post (nI n, ff, fk, fo, tb, od, wo, lb, gb, lf, rs) (nI S) :=
  ⟨_, ox_sB9 post S n hS h5 w l k hw hp n 0 (by omega)⟩
theorem ox_sF16 (post : SX → Prop) (S n C : Nat) (hS : S < 32) (hC : C < 32) (h5 : n ≤ 5) (w l : Nat → Nat)
    (hw : ∀ v, v < n → S.testBit v = true → wo (5 * C + v) = nI (w v) ∧ lf (oz_er S v) = nI (l v) ∧ w v + l v < 1000)
    (hp : post (nI n, ff, fk, fo, tb, od, wo, lb, gb, upd lf S (nI (oz_mn S.testBit (fun v => w v + l v) n)), rs)) :
    ∀ d v, v + d = n → wX_sumBefore_16 post (nI S) (nI C) (nI n) ff fk fo tb od wo lb gb lf rs (d + 1) (nI (oz_mn S.testBit (fun v => w v + l v) v)) (nI v) := by
  intro d
  induction d with
  | zero =>
    intro v hv
    have e : v = n := by omega
    subst e
    refine pk_le v v (fun _ => ⟨vp_in_nI hS (by decide), nm_r ?_ hp⟩) (fun z => absurd z (by omega))
    rw [nI_clamp (by omega)]
  | succ d ih =>
    intro v hv
    have hv5 : v < 5 := by omega
    have hE := oz_er_le S v
    refine pk_le n v (fun z => absurd z (by omega)) (fun _ => ?_)
    have K := ih (v + 1) (by omega)
    cases hb : S.testBit v
    · rw [oz_mn_f hb] at K
      exact br_t ((oz_bitI hS hv5).mpr hb) (nm_r (nI_1 v) K)
    · have hb' : ¬ ((((nI S).toUInt32 >>> ((nI v).toUInt32 &&& Int32.toUInt32 31)).toInt32 &&& 1) = 0) := fun z => by
        rw [oz_bitI hS hv5, hb] at z; cases z
      obtain ⟨h1, h2, h4⟩ := hw v (by omega) hb
      have hm := oz_mn_1000 S.testBit (fun v => w v + l v) v
      rw [oz_mn_t hb] at K
      refine br_f hb' ?_
      rw [oz_5I, oz_erI S hS v hv5, nI_clamp (n := 5 * C + v) (by omega), nI_clamp (n := oz_er S v) (by omega), h1, h2, nI_add]
      refine ⟨vp_in_nI (by omega) (by decide), vp_in_nI (by omega) (by decide), nm_e ?_⟩
      refine pk_le _ (w v + l v) (fun h => nm_r (nI_1 v) ?_) (fun h => nm_r (nI_1 v) ?_)
      · rw [Nat.min_eq_left h] at K
        exact K
      · rw [Nat.min_eq_right (by omega)] at K
        exact K
theorem ox_sF (post : SX → Prop) (S n F : Nat) (hS : S < 32) (hF : F < 32) (h5 : n ≤ 5) (w l : Nat → Nat)
    (hw : ∀ v, v < n → S.testBit v = true → wo (5 * oz_co F S + v) = nI (w v) ∧ lf (oz_er S v) = nI (l v) ∧ w v + l v < 1000)
    (hp : post (nI n, nI F, fk, fo, tb, od, wo, lb, gb, upd lf S (nI (oz_mn S.testBit (fun v => w v + l v) n)), rs)) :
    wpX_sumBefore post (nI n, nI F, fk, fo, tb, od, wo, lb, gb, lf, rs) (nI S) := by
  have hc := oz_co_le F S
  exact nm_r (oz_coI F hF S hS) ⟨_, ox_sF16 post S n (oz_co F S) hS (by omega) h5 w l hw hp n 0 (by omega)⟩
end
section
variable {fk : Int32} {tb od : Nat → Int32}
/-- widths are laid for the sets below S, and for S with the variables below v -/
def oz_WI (tb : Nat → Int32) (n : Nat) (wo : Nat → Int32) (S v : Nat) : Prop :=
  (∀ S', S' < S → ∀ v', v' < n → S'.testBit v' = false → wo (5 * S' + v') = nI (oz_W tb (2 ^ n - 1) S' v')) ∧
  (∀ v', v' < v → S.testBit v' = false → wo (5 * S + v') = nI (oz_W tb (2 ^ n - 1) S v'))
theorem ox_wo25 (post : SX → Prop) (J : Int32 → Int32 → Int32 → Int32 → Int32 → (Nat → Int32) → (Nat → Int32) → (Nat → Int32) → (Nat → Int32) → (Nat → Int32) → (Nat → Int32) → (Nat → Int32) → Prop)
    (lb gb lf : Nat → Int32) (S n : Nat) (hS : S < 2 ^ n) (h5 : n ≤ 5)
    (hJ : ∀ fo wo rs, oz_WI tb n wo S n → J (nI (S + 1)) (nI n) (nI (2 ^ n - 1)) fk fo tb od wo lb gb lf rs) :
    ∀ d v, v + d = n → ∀ fo wo rs, oz_WI tb n wo S v → wX_workOut_25 post J (nI S) (d + 1) (nI v) (nI n) (nI (2 ^ n - 1)) fk fo tb od wo lb gb lf rs := by
  have h32 := oz_pw32 h5
  intro d
  induction d with
  | zero =>
    intro v hv fo wo rs hI
    have e : v = n := by omega
    subst e
    exact pk_le v v (fun _ => nm_r (nI_1 S) (hJ fo wo rs hI)) (fun z => absurd z (by omega))
  | succ d ih =>
    intro v hv fo wo rs hI
    have hv5 : v < 5 := by omega
    refine pk_le n v (fun z => absurd z (by omega)) (fun _ => ?_)
    cases hb : S.testBit v
    · refine br_t ((oz_bitI (by omega) hv5).mpr hb) ?_
      refine ox_cnt _ (2 ^ n - 1) S v fo rs (by omega) (by omega) hv5 (fun fo' rs' => ?_)
      dsimp only
      rw [oz_5I, nI_clamp (n := 5 * S + v) (by omega)]
      refine ⟨vp_in_nI (by omega) (by decide), nm_e (nm_r (nI_1 v) (ih (v + 1) (by omega) fo' _ rs' ⟨?_, ?_⟩))⟩
      · intro S' hS' v' hv' hb'
        rw [pk_un (by omega)]
        exact hI.1 S' hS' v' hv' hb'
      · intro v' hv' hb'
        by_cases e : v' = v
        · subst e; exact pk_us
        · rw [pk_un (by omega)]
          exact hI.2 v' (by omega) hb'
    · have hb' : ¬ ((((nI S).toUInt32 >>> ((nI v).toUInt32 &&& Int32.toUInt32 31)).toInt32 &&& 1) = 0) := fun z => by
        rw [oz_bitI (by omega) hv5, hb] at z; cases z
      refine br_f hb' (nm_r (nI_1 v) (ih (v + 1) (by omega) fo wo rs ⟨hI.1, fun v' hv' h => ?_⟩))
      by_cases e : v' = v
      · subst e; rw [hb] at h; cases h
      · exact hI.2 v' (by omega) h
theorem ox_wo15 (post : SX → Prop) (lb gb lf : Nat → Int32) (n : Nat) (h5 : n ≤ 5)
    (hp : ∀ fo wo rs, oz_WI tb n wo (2 ^ n) 0 → ∃ n92, wX_workOut_92 post n92 1 (nI n) (nI (2 ^ n - 1)) fk fo tb od wo (upd lb 0 0) (upd gb 0 0) (upd lf 0 0) rs) :
    ∀ d S, S + d = 2 ^ n → ∀ fo wo rs, oz_WI tb n wo S 0 → wX_workOut_15 post (d + 1) (nI S) (nI n) (nI (2 ^ n - 1)) fk fo tb od wo lb gb lf rs := by
  have h32 := oz_pw32 h5
  have hpos : 0 < 2 ^ n := Nat.two_pow_pos n
  intro d
  induction d with
  | zero =>
    intro S hS fo wo rs hI
    have e : S = 2 ^ n := by omega
    subst e
    exact pk_lt (2 ^ n - 1) (2 ^ n) (fun _ => nm_e (nm_e (nm_e (hp fo wo rs hI)))) (fun z => absurd z (by omega))
  | succ d ih =>
    intro S hS fo wo rs hI
    refine pk_lt (2 ^ n - 1) S (fun z => absurd z (by omega)) (fun _ => ⟨_, ox_wo25 post _ lb gb lf S n (by omega) h5 (fun fo' wo' rs' hI' => ih (S + 1) (by omega) fo' wo' rs' ⟨?_, fun v' hv' => absurd hv' (Nat.not_lt_zero v')⟩) n 0 (by omega) fo wo rs hI⟩)
    intro S' hS' v' hv' hb'
    by_cases e : S' = S
    · subst e; exact hI'.2 v' hv' hb'
    · exact hI'.1 S' (by omega) v' hv' hb'
/-- the sums are laid for the sets below S -/
def oz_LI (P : Nat → Nat → Prop) (a : Nat → Int32) (S : Nat) : Prop := ∀ T, T < S → ∃ m, a T = nI m ∧ P T m
theorem oz_LI_cl {P : Nat → Nat → Prop} {a : Nat → Int32} {S T : Nat} (h : oz_LI P a S) (hT : T < S) (hb : ∀ m, P T m → m ≤ 240) : a T = nI (a T).toNatClampNeg ∧ P T (a T).toNatClampNeg ∧ (a T).toNatClampNeg ≤ 240 := by
  obtain ⟨m, e, hm⟩ := h T hT
  have := hb m hm
  rw [e, nI_clamp (by omega)]
  exact ⟨rfl, hm, this⟩
theorem oz_LI_s {P : Nat → Nat → Prop} {a : Nat → Int32} {S m : Nat} (h : oz_LI P a S) (hm : P S m) : oz_LI P (upd a S (nI m)) (S + 1) := by
  intro T hT
  by_cases e : T = S
  · subst e; exact ⟨m, pk_us, hm⟩
  · rw [pk_un e]; exact h T (by omega)
theorem oz_b240 {W : Nat → Nat → Nat} (hW : ∀ S v, v < 5 → W S v ≤ 48) {S m : Nat} (hS : S < 32) (h : oz_min (oz_PS S) (oz_szB W) m) : m ≤ 240 := by
  obtain ⟨_, l, hl, e⟩ := h
  have := oz_szB_240 hW hS hl
  omega
theorem oz_x240 {W : Nat → Nat → Nat} (hW : ∀ S v, v < 5 → W S v ≤ 48) {S m : Nat} (hS : S < 32) (h : oz_max (oz_PS S) (oz_szB W) m) : m ≤ 240 := by
  obtain ⟨_, l, hl, e⟩ := h
  have := oz_szB_240 hW hS hl
  omega
theorem oz_a240 {W : Nat → Nat → Nat} {F : Nat} (hW : ∀ S v, v < 5 → W S v ≤ 48) {S m : Nat} (hS : S < 32) (h : oz_min (oz_PS S) (oz_szA W F) m) : m ≤ 240 := by
  obtain ⟨_, l, hl, e⟩ := h
  have := oz_szA_240 (F := F) hW hS hl
  omega
theorem ox_wo113 (post : SX → Prop) (fo : Int32) (wo lb gb rs : Nat → Int32) (n : Nat) (h5 : n ≤ 5) (hI : oz_WI tb n wo (2 ^ n) 0)
    (hp : ∀ lf, oz_LI (fun S => oz_min (oz_PS S) (oz_szA (oz_W tb (2 ^ n - 1)) (2 ^ n - 1))) lf (2 ^ n) → post (nI n, nI (2 ^ n - 1), fk, fo, tb, od, wo, lb, gb, lf, rs)) :
    ∀ d S, S + d = 2 ^ n → 0 < S → ∀ lf, oz_LI (fun S => oz_min (oz_PS S) (oz_szA (oz_W tb (2 ^ n - 1)) (2 ^ n - 1))) lf S → wX_workOut_113 post (d + 1) (nI S) (nI n) (nI (2 ^ n - 1)) fk fo tb od wo lb gb lf rs := by
  have h32 := oz_pw32 h5
  have hW := oz_W48 tb h5
  intro d
  induction d with
  | zero =>
    intro S hS h0 lf hL
    have e : S = 2 ^ n := by omega
    subst e
    exact pk_lt (2 ^ n - 1) (2 ^ n) (fun _ => hp lf hL) (fun z => absurd z (by omega))
  | succ d ih =>
    intro S hS h0 lf hL
    have hS32 : S < 32 := by omega
    refine pk_lt (2 ^ n - 1) S (fun z => absurd z (by omega)) (fun _ => ?_)
    have hL' : ∀ v, S.testBit v = true → lf (oz_er S v) = nI (lf (oz_er S v)).toNatClampNeg ∧ oz_min (oz_PS (oz_er S v)) (oz_szA (oz_W tb (2 ^ n - 1)) (2 ^ n - 1)) (lf (oz_er S v)).toNatClampNeg ∧ (lf (oz_er S v)).toNatClampNeg ≤ 240 := fun v hv => by
      have h1 := oz_er_lt hS32 hv
      exact oz_LI_cl hL h1 (fun m hm => oz_a240 hW (by omega) hm)
    refine ox_sF _ S n (2 ^ n - 1) hS32 (by omega) h5 (fun v => oz_W tb (2 ^ n - 1) (oz_co (2 ^ n - 1) S) v) (fun v => (lf (oz_er S v)).toNatClampNeg) (fun v hv hb => ?_) ?_
    · obtain ⟨k1, _, k3⟩ := hL' v hb
      have k4 := hW (oz_co (2 ^ n - 1) S) v (by omega)
      have hc := oz_co_le (2 ^ n - 1) S
      refine ⟨hI.1 _ (by omega) v hv ?_, k1, ?_⟩
      · rw [oz_co_t (by omega), hb]; simp
      · show oz_W tb (2 ^ n - 1) (oz_co (2 ^ n - 1) S) v + (lf (oz_er S v)).toNatClampNeg < 1000
        omega
    · refine nm_r (nI_1 S) (ih (S + 1) (by omega) (by omega) _ (oz_LI_s hL ?_))
      refine oz_min_gen (n := n) (by omega) hS32 (by omega) _ (fun v => oz_W tb (2 ^ n - 1) (oz_co (2 ^ n - 1) S) v) _ (fun v r h => oz_szA_c _ _ v r h) (fun v hv hb => ?_) (fun v hv hb => ?_)
      · exact ⟨_, rfl, (hL' v hb).2.1⟩
      · have k3 := (hL' v hb).2.2
        have k4 := hW (oz_co (2 ^ n - 1) S) v (by omega)
        show oz_W tb (2 ^ n - 1) (oz_co (2 ^ n - 1) S) v + (lf (oz_er S v)).toNatClampNeg < 1000
        omega
theorem ox_wo92 (post : SX → Prop) (fo : Int32) (wo lf rs : Nat → Int32) (n : Nat) (h5 : n ≤ 5) (hI : oz_WI tb n wo (2 ^ n) 0)
    (hp : ∀ lb gb, oz_LI (fun S => oz_min (oz_PS S) (oz_szB (oz_W tb (2 ^ n - 1)))) lb (2 ^ n) → oz_LI (fun S => oz_max (oz_PS S) (oz_szB (oz_W tb (2 ^ n - 1)))) gb (2 ^ n) → ∃ n113, wX_workOut_113 post n113 1 (nI n) (nI (2 ^ n - 1)) fk fo tb od wo lb gb lf rs) :
    ∀ d S, S + d = 2 ^ n → 0 < S → ∀ lb gb, oz_LI (fun S => oz_min (oz_PS S) (oz_szB (oz_W tb (2 ^ n - 1)))) lb S → oz_LI (fun S => oz_max (oz_PS S) (oz_szB (oz_W tb (2 ^ n - 1)))) gb S → wX_workOut_92 post (d + 1) (nI S) (nI n) (nI (2 ^ n - 1)) fk fo tb od wo lb gb lf rs := by
  have h32 := oz_pw32 h5
  have hW := oz_W48 tb h5
  intro d
  induction d with
  | zero =>
    intro S hS h0 lb gb hL hG
    have e : S = 2 ^ n := by omega
    subst e
    exact pk_lt (2 ^ n - 1) (2 ^ n) (fun _ => hp lb gb hL hG) (fun z => absurd z (by omega))
  | succ d ih =>
    intro S hS h0 lb gb hL hG
    have hS32 : S < 32 := by omega
    refine pk_lt (2 ^ n - 1) S (fun z => absurd z (by omega)) (fun _ => ?_)
    have hL' : ∀ v, S.testBit v = true → lb (oz_er S v) = nI (lb (oz_er S v)).toNatClampNeg ∧ oz_min (oz_PS (oz_er S v)) (oz_szB (oz_W tb (2 ^ n - 1))) (lb (oz_er S v)).toNatClampNeg ∧ (lb (oz_er S v)).toNatClampNeg ≤ 240 := fun v hv => by
      have h1 := oz_er_lt hS32 hv
      exact oz_LI_cl hL h1 (fun m hm => oz_b240 hW (by omega) hm)
    have hG' : ∀ v, S.testBit v = true → gb (oz_er S v) = nI (gb (oz_er S v)).toNatClampNeg ∧ oz_max (oz_PS (oz_er S v)) (oz_szB (oz_W tb (2 ^ n - 1))) (gb (oz_er S v)).toNatClampNeg ∧ (gb (oz_er S v)).toNatClampNeg ≤ 240 := fun v hv => by
      have h1 := oz_er_lt hS32 hv
      exact oz_LI_cl hG h1 (fun m hm => oz_x240 hW (by omega) hm)
    refine ox_sB _ S n hS32 h5 (fun v => oz_W tb (2 ^ n - 1) (oz_er S v) v) (fun v => (lb (oz_er S v)).toNatClampNeg) (fun v => (gb (oz_er S v)).toNatClampNeg) (fun v hv hb => ?_) ?_
    · obtain ⟨k1, _, k3⟩ := hL' v hb
      obtain ⟨g1, _, g3⟩ := hG' v hb
      have k4 := hW (oz_er S v) v (by omega)
      have hc := oz_er_lt hS32 hb
      refine ⟨hI.1 _ (by omega) v hv ?_, k1, g1, ?_, ?_⟩
      · rw [oz_er_t hS32]; simp
      · show oz_W tb (2 ^ n - 1) (oz_er S v) v + (lb (oz_er S v)).toNatClampNeg < 1000
        omega
      · show oz_W tb (2 ^ n - 1) (oz_er S v) v + (gb (oz_er S v)).toNatClampNeg < 1000
        omega
    · refine nm_r (nI_1 S) (ih (S + 1) (by omega) (by omega) _ _ (oz_LI_s hL ?_) (oz_LI_s hG ?_))
      · refine oz_min_gen (n := n) (by omega) hS32 (by omega) _ (fun v => oz_W tb (2 ^ n - 1) (oz_er S v) v) _ (fun v r h => oz_szB_c _ hS32 v r h) (fun v hv hb => ?_) (fun v hv hb => ?_)
        · exact ⟨_, rfl, (hL' v hb).2.1⟩
        · have k3 := (hL' v hb).2.2
          have k4 := hW (oz_er S v) v (by omega)
          show oz_W tb (2 ^ n - 1) (oz_er S v) v + (lb (oz_er S v)).toNatClampNeg < 1000
          omega
      · refine oz_max_gen (n := n) (by omega) hS32 (by omega) _ (fun v => oz_W tb (2 ^ n - 1) (oz_er S v) v) _ (fun v r h => oz_szB_c _ hS32 v r h) (fun v hv hb => ?_)
        exact ⟨_, rfl, (hG' v hb).2.1⟩
theorem oz_LI_1 {P : Nat → Nat → Prop} {a : Nat → Int32} (h : P 0 0) : oz_LI P (upd a 0 0) 1 := by
  intro T hT
  have e : T = 0 := by omega
  subst e
  exact ⟨0, pk_us, h⟩
theorem ox_work (post : SX → Prop) (n : Nat) (fo : Int32) (wo lb gb lf rs : Nat → Int32) (h5 : n ≤ 5)
    (h : fk = 0 ∨ (fk = 1 ∧ oz_Gd n tb wo lb gb lf))
    (hp : ∀ fo wo lb gb lf rs, oz_Gd n tb wo lb gb lf → post (nI n, nI (2 ^ n - 1), 1, fo, tb, od, wo, lb, gb, lf, rs)) :
    wpX_workOut post (nI n, nI (2 ^ n - 1), fk, fo, tb, od, wo, lb, gb, lf, rs) := by
  have hpos : 0 < 2 ^ n := Nat.two_pow_pos n
  rcases h with e | ⟨e, hG⟩
  · refine br_t e ⟨_, ox_wo15 (fk := 1) post lb gb lf n h5 (fun fo' wo' rs' hI => ?_) (2 ^ n) 0 (by omega) fo wo rs ⟨fun S' hS' => absurd hS' (Nat.not_lt_zero S'), fun v' hv' => absurd hv' (Nat.not_lt_zero v')⟩⟩
    refine ⟨_, ox_wo92 (fk := 1) post fo' wo' _ rs' n h5 hI (fun lb' gb' hL hG => ?_) (2 ^ n - 1) 1 (by omega) (by omega) _ _ (oz_LI_1 (oz_min_0 _ rfl)) (oz_LI_1 (oz_max_0 _ rfl))⟩
    refine ⟨_, ox_wo113 (fk := 1) post fo' wo' lb' gb' rs' n h5 hI (fun lf' hF => ?_) (2 ^ n - 1) 1 (by omega) (by omega) _ (oz_LI_1 (oz_min_0 _ rfl))⟩
    exact hp fo' wo' lb' gb' lf' rs' ⟨hI.1, hL, hG, hF⟩
  · subst e
    exact br_f (by decide) (hp fo wo lb gb lf rs hG)
end
end
section
/-! X: what is read off the sums -/
/-- the array's first places hold the order -/
def oz_OL (a : Nat → Int32) (l : List Nat) : Prop := ∀ p, p < l.length → a p = nI (l.getD p 0)
theorem oz_drop {l : List Nat} {p : Nat} (h : p < l.length) : l.drop p = l.getD p 0 :: l.drop (p + 1) := by
  rw [List.drop_eq_getElem_cons h, List.getD_eq_getElem?_getD, List.getElem?_eq_getElem h]
  rfl
theorem oz_getD_mem {l : List Nat} {p : Nat} (h : p < l.length) : l.getD p 0 ∈ l := by
  rw [List.getD_eq_getElem?_getD, List.getElem?_eq_getElem h]
  exact List.getElem_mem h
theorem oz_PS_drop {n : Nat} {l : List Nat} (h : oz_PS (2 ^ n - 1) l) (p : Nat) : oz_PS (oz_mk (l.drop p)) (l.drop p) ∧ oz_mk (l.drop p) < 2 ^ n := by
  refine ⟨oz_PS_of (List.Nodup.sublist (List.drop_sublist p l) h.1), oz_ltn (fun x hx => ?_)⟩
  exact (oz_full_t n x).mp ((h.2 x).mp (List.mem_of_mem_drop ((oz_mk_t _ x).mp hx)))
theorem oz_PS_next {n : Nat} (h5 : n ≤ 5) {l : List Nat} (h : oz_PS (2 ^ n - 1) l) {p : Nat} (hp : p < l.length) : (oz_mk (l.drop (p + 1))).testBit (l.getD p 0) = false := by
  cases z : (oz_mk (l.drop (p + 1))).testBit (l.getD p 0)
  · rfl
  · have h1 := (oz_PS_drop h p).1.1
    rw [oz_drop hp, List.nodup_cons] at h1
    exact absurd ((oz_mk_t _ _).mp z) h1.1
section
variable {n : Nat} {fo : Int32} {tb od wo lb gb lf rs : Nat → Int32} {l : List Nat}
theorem ox_wA6 (post : Int32 → Prop) (p : Nat) (h5 : n ≤ 5) (hp : p < n) (hG : oz_Gd n tb wo lb gb lf) (hl : oz_PS (2 ^ n - 1) l) (hO : oz_OL od l)
    (hpost : post (nI (oz_W tb (2 ^ n - 1) (oz_mk (l.drop (p + 1))) (l.getD p 0)))) :
    ∀ d q, q + d = n → ∀ acc, acc < 32 → acc ||| oz_mk (l.drop q) = oz_mk (l.drop (p + 1)) → wX_widthAt_6 post (nI p) (nI n) (nI (2 ^ n - 1)) 1 fo tb od wo lb gb lf rs (d + 1) (nI acc) (nI q) := by
  have hlen := oz_full_len h5 hl
  have hpos : 0 < 2 ^ n := Nat.two_pow_pos n
  have h32 := oz_pw32 h5
  intro d
  induction d with
  | zero =>
    intro q hq acc ha e
    have e' : q = n := by omega
    subst e'
    rw [List.drop_eq_nil_of_le (by omega)] at e
    have e2 : acc = oz_mk (l.drop (p + 1)) := by rw [← e]; exact (Nat.or_zero acc).symm
    have hx : l.getD p 0 < q := oz_PS_lt hl (by omega) (oz_getD_mem (by omega))
    have hB := (oz_PS_drop hl (p + 1)).2
    have hv := hG.1 _ hB _ hx (oz_PS_next h5 hl (by omega))
    refine pk_le q q (fun _ => ?_) (fun z => absurd z (by omega))
    rw [nI_clamp (n := p) (by omega), hO p (by omega), oz_5I, e2, nI_clamp (n := 5 * oz_mk (l.drop (p + 1)) + l.getD p 0) (by omega), hv]
    exact ⟨vp_in_nI (by omega) (by decide), vp_in_nI (by omega) (by decide), hpost⟩
  | succ d ih =>
    intro q hq acc ha e
    have hx : l.getD q 0 < n := oz_PS_lt hl (by omega) (oz_getD_mem (by omega))
    refine pk_le n q (fun z => absurd z (by omega)) (fun _ => ⟨vp_in_nI (by omega) (by decide), ?_⟩)
    rw [nI_clamp (n := q) (by omega), hO q (by omega)]
    refine nm_r (oz_orI (by omega)) (nm_r (nI_1 q) (ih (q + 1) (by omega) _ (oz_or32 ha (oz_p32 (by omega))) ?_))
    rw [← e, oz_drop (p := q) (by omega), Nat.or_assoc]
    rfl
theorem ox_wA (post : Int32 → Prop) (p : Nat) (h5 : n ≤ 5) (hp : p < n) (hG : oz_Gd n tb wo lb gb lf) (hl : oz_PS (2 ^ n - 1) l) (hO : oz_OL od l)
    (hpost : post (nI (oz_W tb (2 ^ n - 1) (oz_mk (l.drop (p + 1))) (l.getD p 0)))) :
    wpX_widthAt post (nI n, nI (2 ^ n - 1), 1, fo, tb, od, wo, lb, gb, lf, rs) (nI p) :=
  nm_r (nI_1 p) ⟨_, ox_wA6 post p h5 hp hG hl hO hpost (n - (p + 1)) (p + 1) (by omega) 0 (by decide) (Nat.zero_or _)⟩
theorem oz_szB_drop (W : Nat → Nat → Nat) {p : Nat} (h : p < l.length) : oz_szB W (l.drop p) = W (oz_mk (l.drop (p + 1))) (l.getD p 0) + oz_szB W (l.drop (p + 1)) := by
  rw [oz_drop h]
  rfl
theorem ox_size8 (post : Int32 → SX → Prop) (h5 : n ≤ 5) (hG : oz_Gd n tb wo lb gb lf) (hl : oz_PS (2 ^ n - 1) l) (hO : oz_OL od l)
    (hpost : post (nI (oz_szB (oz_W tb (2 ^ n - 1)) l)) (nI n, nI (2 ^ n - 1), 1, fo, tb, od, wo, lb, gb, lf, rs)) :
    ∀ d p, p + d = n → ∀ s, s + oz_szB (oz_W tb (2 ^ n - 1)) (l.drop p) = oz_szB (oz_W tb (2 ^ n - 1)) l → wX_size_8 post (nI n) (nI (2 ^ n - 1)) 1 fo tb od wo lb gb lf rs (d + 1) (nI s) (nI p) := by
  have hlen := oz_full_len h5 hl
  intro d
  induction d with
  | zero =>
    intro p hp s hs
    have e' : p = n := by omega
    subst e'
    rw [List.drop_eq_nil_of_le (by omega)] at hs
    have e : s = oz_szB (oz_W tb (2 ^ p - 1)) l := hs
    subst e
    exact pk_le p p (fun _ => hpost) (fun z => absurd z (by omega))
  | succ d ih =>
    intro p hp s hs
    refine pk_le n p (fun z => absurd z (by omega)) (fun _ => ?_)
    refine ox_wA _ p h5 (by omega) hG hl hO ?_
    refine nm_r (nI_add _ _) (nm_r (nI_1 p) (ih (p + 1) (by omega) _ ?_))
    rw [oz_szB_drop _ (by omega)] at hs
    omega
theorem ox_size (post : Int32 → SX → Prop) (fk : Int32) (h5 : n ≤ 5) (h : fk = 0 ∨ (fk = 1 ∧ oz_Gd n tb wo lb gb lf)) (hl : oz_PS (2 ^ n - 1) l) (hO : oz_OL od l)
    (hpost : ∀ fo wo lb gb lf rs, oz_Gd n tb wo lb gb lf → post (nI (oz_szB (oz_W tb (2 ^ n - 1)) l)) (nI n, nI (2 ^ n - 1), 1, fo, tb, od, wo, lb, gb, lf, rs)) :
    wpX_size post (nI n, nI (2 ^ n - 1), fk, fo, tb, od, wo, lb, gb, lf, rs) := by
  unfold wpX_size
  exact ox_work _ n fo wo lb gb lf rs h5 h (fun fo wo lb gb lf rs hG => ⟨_, ox_size8 post h5 hG hl hO (hpost fo wo lb gb lf rs hG) n 0 (by omega) 0 (Nat.zero_add _)⟩)
/-! best -/
def oz_g (lb : Nat → Int32) (S : Nat) : Nat := (lb S).toNatClampNeg
theorem oz_g_t (h5 : n ≤ 5) (hG : oz_Gd n tb wo lb gb lf) {S : Nat} (hS : S < 2 ^ n) : lb S = nI (oz_g lb S) ∧ oz_min (oz_PS S) (oz_szB (oz_W tb (2 ^ n - 1))) (oz_g lb S) ∧ oz_g lb S ≤ 240 := by
  have h32 := oz_pw32 h5
  exact oz_LI_cl (P := fun S => oz_min (oz_PS S) (oz_szB (oz_W tb (2 ^ n - 1)))) hG.2.1 hS (fun m hm => oz_b240 (oz_W48 tb h5) (by omega) hm)
theorem ox_bT2 (post : Int32 → Prop) (v : Nat) (r : List Nat) (h5 : n ≤ 5) (hG : oz_Gd n tb wo lb gb lf) (hM : oz_mk (v :: r) < 2 ^ n) (hnd : (v :: r).Nodup) (hB : oz_GB (oz_W tb (2 ^ n - 1)) (oz_g lb) (v :: r)) (hp : post (nI v)) :
    ∀ d u, u + d = v → wX_bestOnTop_2 post (nI (oz_mk (v :: r))) (nI n) (nI (2 ^ n - 1)) 1 fo tb od wo lb gb lf rs (d + 1) (nI u) := by
  have h32 := oz_pw32 h5
  have hM32 : oz_mk (v :: r) < 32 := by omega
  have hvM : (oz_mk (v :: r)).testBit v = true := (oz_mk_t _ v).mpr List.mem_cons_self
  have hvn : v < n := oz_tln hM hvM
  have hEr : oz_er (oz_mk (v :: r)) v = oz_mk r := (oz_PS_mk ((oz_PS_cons hM32).mp (oz_PS_of hnd)).2).symm
  obtain ⟨gM, _, bM⟩ := oz_g_t h5 hG hM
  intro d
  induction d with
  | zero =>
    intro u hu
    have e : u = v := by omega
    subst e
    have hE := oz_er_lt hM32 hvM
    obtain ⟨g1, _, b1⟩ := oz_g_t h5 hG (S := oz_er (oz_mk (u :: r)) u) (by omega)
    have hw := hG.1 (oz_er (oz_mk (u :: r)) u) (by omega) u hvn (by rw [oz_er_t hM32]; simp)
    have hb' : ¬ ((((nI (oz_mk (u :: r))).toUInt32 >>> ((nI u).toUInt32 &&& Int32.toUInt32 31)).toInt32 &&& 1) = 0) := fun z => by
      rw [oz_bitI hM32 (by omega), hvM] at z; cases z
    refine pk_le n u (fun z => absurd z (by omega)) (fun _ => br_f hb' (nm_r (oz_erI _ hM32 u (by omega)) ?_))
    rw [oz_5I, nI_clamp (n := 5 * oz_er (oz_mk (u :: r)) u + u) (by omega), nI_clamp (n := oz_er (oz_mk (u :: r)) u) (by omega), nI_clamp (n := oz_mk (u :: r)) (by omega), hw, g1, gM, nI_add]
    refine ⟨vp_in_nI (by omega) (by decide), vp_in_nI (by omega) (by decide), vp_in_nI (by omega) (by decide), br_t ?_ hp⟩
    have := hB.1.1
    rw [hEr, this]
  | succ d ih =>
    intro u hu
    have K := ih (u + 1) (by omega)
    refine pk_le n u (fun z => absurd z (by omega)) (fun _ => ?_)
    cases hb : (oz_mk (v :: r)).testBit u
    · exact br_t ((oz_bitI hM32 (by omega)).mpr hb) (nm_r (nI_1 u) K)
    · have hE := oz_er_lt hM32 hb
      obtain ⟨g1, _, b1⟩ := oz_g_t h5 hG (S := oz_er (oz_mk (v :: r)) u) (by omega)
      have hw := hG.1 (oz_er (oz_mk (v :: r)) u) (by omega) u (by omega) (by rw [oz_er_t hM32]; simp)
      have hwb := oz_W48 tb h5 (oz_er (oz_mk (v :: r)) u) u (by omega)
      have hb' : ¬ ((((nI (oz_mk (v :: r))).toUInt32 >>> ((nI u).toUInt32 &&& Int32.toUInt32 31)).toInt32 &&& 1) = 0) := fun z => by
        rw [oz_bitI hM32 (by omega), hb] at z; cases z
      refine br_f hb' (nm_r (oz_erI _ hM32 u (by omega)) ?_)
      rw [oz_5I, nI_clamp (n := 5 * oz_er (oz_mk (v :: r)) u + u) (by omega), nI_clamp (n := oz_er (oz_mk (v :: r)) u) (by omega), nI_clamp (n := oz_mk (v :: r)) (by omega), hw, g1, gM, nI_add]
      refine ⟨vp_in_nI (by omega) (by decide), vp_in_nI (by omega) (by decide), vp_in_nI (by omega) (by decide), br_f ?_ (nm_r (nI_1 u) K)⟩
      rw [nI_eq (by omega) (by omega)]
      exact hB.1.2 u (by omega) hb
theorem oz_GB_drop {W : Nat → Nat → Nat} {g : Nat → Nat} : ∀ (p : Nat) (l : List Nat), oz_GB W g l → oz_GB W g (l.drop p) := by
  intro p
  induction p with
  | zero => intro l h; exact h
  | succ p ih =>
    intro l h
    cases l with
    | nil => exact h
    | cons v r => exact ih r h.2
theorem ox_best24 (post : Int32 → SX → Prop) (pl : Nat) (h5 : n ≤ 5) (hpl : pl < n) (hG : oz_Gd n tb wo lb gb lf) (hl : oz_PS (2 ^ n - 1) l) (hB : oz_GB (oz_W tb (2 ^ n - 1)) (oz_g lb) l)
    (hpost : post (nI (l.getD pl 0)) (nI n, nI (2 ^ n - 1), 1, fo, tb, od, wo, lb, gb, lf, rs)) :
    ∀ d p, p + d = pl + 1 → ∀ ch, (p = pl + 1 → ch = nI (l.getD pl 0)) → wX_best_24 post (nI pl) (nI n) (nI (2 ^ n - 1)) 1 fo tb od wo lb gb lf rs (d + 1) (nI (oz_mk (l.drop p))) ch (nI p) := by
  have hlen := oz_full_len h5 hl
  have h32 := oz_pw32 h5
  intro d
  induction d with
  | zero =>
    intro p hp ch hch
    refine pk_lt pl p (fun _ => ?_) (fun z => absurd z (by omega))
    rw [hch (by omega)]
    exact hpost
  | succ d ih =>
    intro p hp ch hch
    refine pk_lt pl p (fun z => absurd z (by omega)) (fun _ => ?_)
    have hd := oz_drop (l := l) (p := p) (by omega)
    obtain ⟨hPS, hlt⟩ := oz_PS_drop hl p
    have hBp := oz_GB_drop p l hB
    have hx : l.getD p 0 < n := oz_PS_lt hl (by have := Nat.two_pow_pos n; omega) (oz_getD_mem (by omega))
    rw [hd] at hPS hlt hBp
    have hEr : oz_er (oz_mk (l.getD p 0 :: l.drop (p + 1))) (l.getD p 0) = oz_mk (l.drop (p + 1)) := (oz_PS_mk ((oz_PS_cons (by omega)).mp hPS).2).symm
    rw [hd]
    refine ⟨_, ox_bT2 _ (l.getD p 0) (l.drop (p + 1)) h5 hG hlt hPS.1 hBp ?_ (l.getD p 0) 0 (by omega)⟩
    refine nm_r (e' := nI (oz_mk (l.drop (p + 1)))) ?_ (nm_r (nI_1 p) (ih (p + 1) (by omega) _ (fun z => ?_)))
    · rw [oz_erI _ (by omega) _ (by omega), hEr]
    · have : p = pl := by omega
      rw [this]
/-! leastWith -/
theorem ox_on4 (post : Int32 → Prop) (S : Nat) (hS : S < 32) (hp : post (nI (oz_on S 5))) :
    ∀ d k, k + d = 5 → wX_ones_4 post (nI S) (d + 1) (nI (oz_on S k)) (nI k) := by
  intro d
  induction d with
  | zero =>
    intro k hk
    have e : k = 5 := by omega
    subst e
    exact br_t (by decide) hp
  | succ d ih =>
    intro k hk
    have h5 : ¬ (5 : Int32) ≤ nI k := nI_ge (b := 5) (by omega) (by decide)
    refine br_f h5 (nm_r (e' := nI (oz_on S (k + 1))) ?_ (nm_r (nI_1 k) (ih (k + 1) (by omega))))
    show nI (oz_on S k) + _ = nI (oz_on S k + (if S.testBit k = true then 1 else 0))
    rw [← nI_add]
    congr 1
    have hc := (by decide +kernel : ∀ S, S < 32 → ∀ k, k < 5 → ((nI S).toUInt32 >>> ((nI k).toUInt32 &&& Int32.toUInt32 31)).toInt32 &&& 1 = nI (if S.testBit k = true then 1 else 0))
    exact hc S hS k (by omega)
theorem ox_on (post : Int32 → Prop) (S : Nat) (hS : S < 32) (hp : post (nI (oz_on S 5))) : wpX_ones post (nI S) :=
  ⟨_, ox_on4 post S hS hp 5 0 rfl⟩
theorem ox_lW29 (post : Int32 → SX → Prop) (var pl : Nat) (h5 : n ≤ 5) (hvar : var < n) (hpl : pl < n) (f : Nat → Nat)
    (hf : ∀ b, b < 2 ^ n → b.testBit var = false → (lf (oz_er (oz_co (2 ^ n - 1) b) var) + wo (5 * b + var)) + lb b = nI (f b) ∧ f b < 1000)
    (hpost : post (nI (oz_mn (fun b => !b.testBit var && decide (oz_on b 5 = n - 1 - pl)) f (2 ^ n))) (nI n, nI (2 ^ n - 1), 1, fo, tb, od, wo, lb, gb, lf, rs)) :
    ∀ d b, b + d = 2 ^ n → wX_leastWith_29 post (nI var) (nI pl) (nI n) (nI (2 ^ n - 1)) 1 fo tb od wo lb gb lf rs (d + 1) (nI (oz_mn (fun b => !b.testBit var && decide (oz_on b 5 = n - 1 - pl)) f b)) (nI b) := by
  have h32 := oz_pw32 h5
  have hpos : 0 < 2 ^ n := Nat.two_pow_pos n
  intro d
  induction d with
  | zero =>
    intro b hb
    have e : b = 2 ^ n := by omega
    subst e
    exact pk_lt (2 ^ n - 1) (2 ^ n) (fun _ => hpost) (fun z => absurd z (by omega))
  | succ d ih =>
    intro b hb
    have K := ih (b + 1) (by omega)
    have hb32 : b < 32 := by omega
    refine pk_lt (2 ^ n - 1) b (fun z => absurd z (by omega)) (fun _ => ?_)
    cases ht : b.testBit var
    · refine br_t ((oz_bitI hb32 (by omega)).mpr ht) (ox_on _ b hb32 ?_)
      have e1 : (nI n - 1) - nI pl = nI (n - 1 - pl) := by
        show (nI n - nI 1) - nI pl = _
        rw [pk_sub (by omega), pk_sub (by omega)]
      have hon := oz_on_le b 5
      rw [e1]
      refine pk_eq (oz_on b 5) (n - 1 - pl) (fun e => ?_) (fun e => ?_)
      · have hc : (!b.testBit var && decide (oz_on b 5 = n - 1 - pl)) = true := by rw [ht, e]; simp
        rw [oz_mn_t hc] at K
        have hco := oz_co_le (2 ^ n - 1) b
        have her := oz_er_le (oz_co (2 ^ n - 1) b) var
        have hm := oz_mn_1000 (fun b => !b.testBit var && decide (oz_on b 5 = n - 1 - pl)) f b
        obtain ⟨f1, f2⟩ := hf b (by omega) ht
        refine nm_r (e' := nI (oz_er (oz_co (2 ^ n - 1) b) var)) ?_ ?_
        · rw [oz_coI _ (by omega) _ hb32, oz_erI _ (by omega) _ (by omega)]
        · rw [oz_5I, nI_clamp (n := 5 * b + var) (by omega), nI_clamp (n := oz_er (oz_co (2 ^ n - 1) b) var) (by omega), nI_clamp (n := b) (by omega), f1]
          refine ⟨vp_in_nI (by omega) (by decide), vp_in_nI (by omega) (by decide), vp_in_nI (by omega) (by decide), nm_e ?_⟩
          refine pk_le _ (f b) (fun h => nm_r (nI_1 b) ?_) (fun h => nm_r (nI_1 b) ?_)
          · rw [Nat.min_eq_left h] at K
            exact K
          · rw [Nat.min_eq_right (by omega)] at K
            exact K
      · have hc : (!b.testBit var && decide (oz_on b 5 = n - 1 - pl)) = false := by rw [decide_eq_false e, Bool.and_false]
        rw [oz_mn_f hc] at K
        exact nm_r (nI_1 b) K
    · have hb' : ¬ ((((nI b).toUInt32 >>> ((nI var).toUInt32 &&& Int32.toUInt32 31)).toInt32 &&& 1) = 0) := fun z => by
        rw [oz_bitI hb32 (by omega), ht] at z; cases z
      have hc : (!b.testBit var && decide (oz_on b 5 = n - 1 - pl)) = false := by rw [ht]; rfl
      rw [oz_mn_f hc] at K
      exact br_f hb' (nm_r (nI_1 b) K)
end
end
section
/-! the reference's spread of bits over the places, and that its widths are X's -/
def oz_sp : List Nat → Nat → Nat
  | [], _ => 0
  | v :: r, b => (if b % 2 = 1 then 2 ^ v else 0) ||| oz_sp r (b / 2)
theorem oz_sp_0 (v : Nat) (r : List Nat) (t : Nat) : oz_sp (v :: r) (2 * t) = oz_sp r t := by
  show (if 2 * t % 2 = 1 then 2 ^ v else 0) ||| oz_sp r (2 * t / 2) = _
  rw [if_neg (by omega), show 2 * t / 2 = t by omega, Nat.zero_or]
theorem oz_sp_1 (v : Nat) (r : List Nat) (t : Nat) : oz_sp (v :: r) (2 * t + 1) = 2 ^ v ||| oz_sp r t := by
  show (if (2 * t + 1) % 2 = 1 then 2 ^ v else 0) ||| oz_sp r ((2 * t + 1) / 2) = _
  rw [if_pos (by omega), show (2 * t + 1) / 2 = t by omega]
theorem oz_sp_t : ∀ (l : List Nat) (b x : Nat), (oz_sp l b).testBit x = true → x ∈ l := by
  intro l
  induction l with
  | nil => intro b x h; exact absurd h (by simp [oz_sp])
  | cons v r ih =>
    intro b x h
    have h' : ((if b % 2 = 1 then 2 ^ v else 0) ||| oz_sp r (b / 2)).testBit x = true := h
    rw [Nat.testBit_or, Bool.or_eq_true] at h'
    rcases h' with z | z
    · split at z
      · rw [Nat.testBit_two_pow, decide_eq_true_iff] at z
        subst z; exact List.mem_cons_self
      · rw [Nat.zero_testBit] at z; cases z
    · exact List.mem_cons_of_mem _ (ih _ x z)
theorem oz_sp_sub (l : List Nat) (b : Nat) : oz_sp l b &&& oz_mk l = oz_sp l b :=
  oz_sub_iff.mpr (fun x h => (oz_mk_t l x).mpr (oz_sp_t l b x h))
theorem oz_xr {a v x : Nat} (h : a.testBit v = true) : (a ^^^ 2 ^ v).testBit x = true ↔ a.testBit x = true ∧ x ≠ v := by
  rw [Nat.testBit_xor, Nat.testBit_two_pow]
  by_cases e : v = x
  · subst e; rw [h]; simp
  · have e' : ¬ x = v := fun z => e z.symm
    simp [e, e']
theorem oz_xo {a v : Nat} (h : a.testBit v = true) : 2 ^ v ||| (a ^^^ 2 ^ v) = a := by
  apply oz_ext
  intro x
  rw [Nat.testBit_or, Bool.or_eq_true, oz_xr h, Nat.testBit_two_pow, decide_eq_true_iff]
  constructor
  · rintro (z | z)
    · subst z; exact h
    · exact z.1
  · intro z
    by_cases e : v = x
    · exact Or.inl e
    · exact Or.inr ⟨z, fun y => e y.symm⟩
theorem oz_xa {a v : Nat} (h : a.testBit v = false) : a ^^^ 2 ^ v = 2 ^ v ||| a := by
  apply Nat.eq_of_testBit_eq
  intro x
  rw [Nat.testBit_xor, Nat.testBit_or, Nat.testBit_two_pow]
  by_cases e : v = x
  · subst e; rw [h]; simp
  · simp [e]
theorem oz_sp_sur : ∀ l : List Nat, ∀ a, a &&& oz_mk l = a → ∃ b, b < 2 ^ l.length ∧ oz_sp l b = a := by
  intro l
  induction l with
  | nil =>
    intro a ha
    refine ⟨0, by decide, ?_⟩
    show 0 = a
    rw [← ha]; exact (Nat.and_zero a).symm
  | cons v r ih =>
    intro a ha
    rw [oz_sub_iff] at ha
    have hlen : (v :: r).length = r.length + 1 := rfl
    cases hv : a.testBit v
    · obtain ⟨b, hb, e⟩ := ih a (oz_sub_iff.mpr (fun x hx => by
        have := (oz_mk_t _ x).mp (ha x hx)
        rcases List.mem_cons.mp this with z | z
        · subst z; rw [hv] at hx; cases hx
        · exact (oz_mk_t r x).mpr z))
      refine ⟨2 * b, ?_, by rw [oz_sp_0]; exact e⟩
      rw [hlen, Nat.pow_succ]; omega
    · obtain ⟨b, hb, e⟩ := ih (a ^^^ 2 ^ v) (oz_sub_iff.mpr (fun x hx => by
        rw [oz_xr hv] at hx
        have := (oz_mk_t _ x).mp (ha x hx.1)
        rcases List.mem_cons.mp this with z | z
        · exact absurd z hx.2
        · exact (oz_mk_t r x).mpr z))
      refine ⟨2 * b + 1, ?_, by rw [oz_sp_1, e]; exact oz_xo hv⟩
      rw [hlen, Nat.pow_succ]; omega
theorem oz_sp_all (l : List Nat) (P : Nat → Prop) : (∀ b, b < 2 ^ l.length → P (oz_sp l b)) ↔ ∀ a, a &&& oz_mk l = a → P a := by
  constructor
  · intro h a ha
    obtain ⟨b, hb, e⟩ := oz_sp_sur l a ha
    have := h b hb
    rw [e] at this
    exact this
  · intro h b _
    exact h _ (oz_sp_sub l b)
theorem oz_sp_ex (l : List Nat) (P : Nat → Prop) : (∃ b, b < 2 ^ l.length ∧ P (oz_sp l b)) ↔ ∃ a, a &&& oz_mk l = a ∧ P a := by
  constructor
  · rintro ⟨b, _, h⟩
    exact ⟨_, oz_sp_sub l b, h⟩
  · rintro ⟨a, ha, h⟩
    obtain ⟨b, hb, e⟩ := oz_sp_sur l a ha
    exact ⟨b, hb, by rw [e]; exact h⟩
theorem oz_sel_ex {o : Nat} (ho : o < 32) (P : Nat → Prop) : (∃ j, j < oz_len o ∧ P (oz_sel o j)) ↔ ∃ a, a &&& o = a ∧ P a := by
  constructor
  · rintro ⟨j, _, h⟩
    exact ⟨_, oz_sel_sub o j, h⟩
  · rintro ⟨a, ha, h⟩
    have hl := oz_sub_le ha
    obtain ⟨h1, h2⟩ := oz_sel_rk o ho a (by omega) ha
    exact ⟨_, h1, by rw [h2]; exact h⟩
/-! Y's keys -/
def oz_qr (t : Int32) (g : Nat) (l : List Nat) : Nat → Bool := fun s => bt t (g ||| oz_sp l s)
def oz_dr (q : Nat → Bool) (M : Nat) : Bool := oz_dp (fun t => q (2 * t)) (fun t => q (2 * t + 1)) M
def oz_yq (tb : Nat → Int32) (l : List Nat) (p k : Nat) : Nat → Bool := oz_qr (tb (k / 2 ^ p)) (oz_sp (l.take p) (k % 2 ^ p)) (l.drop p)
def oz_yk (tb : Nat → Int32) (l : List Nat) (p k : Nat) : Int32 := oz_bo (oz_yq tb l p k) (2 ^ (l.length - p))
def oz_yd (tb : Nat → Int32) (l : List Nat) (p k : Nat) : Bool := oz_dr (oz_yq tb l p k) (2 ^ (l.length - (p + 1)))
def oz_yl (tb : Nat → Int32) (l : List Nat) (p k : Nat) : List Int32 := oz_sq (oz_yk tb l p) (oz_yd tb l p) k
theorem oz_dep_eq {o S v : Nat} (hv : S.testBit v = false) (ho : o = 2 ^ v ||| S) (q : Nat → Bool) :
    (∃ a, a &&& o = a ∧ q a ≠ q (a ^^^ 2 ^ v)) ↔ ∃ a, a &&& S = a ∧ q a ≠ q (2 ^ v ||| a) := by
  subst ho
  constructor
  · rintro ⟨a, ha, h⟩
    rw [oz_sub_iff] at ha
    cases hb : a.testBit v
    · refine ⟨a, oz_sub_iff.mpr (fun x hx => ?_), by rw [← oz_xa hb]; exact h⟩
      have := ha x hx
      rw [Nat.testBit_or, Bool.or_eq_true, Nat.testBit_two_pow, decide_eq_true_iff] at this
      rcases this with z | z
      · subst z; rw [hb] at hx; cases hx
      · exact z
    · refine ⟨a ^^^ 2 ^ v, oz_sub_iff.mpr (fun x hx => ?_), by rw [oz_xo hb]; exact fun z => h z.symm⟩
      rw [oz_xr hb] at hx
      have := ha x hx.1
      rw [Nat.testBit_or, Bool.or_eq_true, Nat.testBit_two_pow, decide_eq_true_iff] at this
      rcases this with z | z
      · exact absurd z.symm hx.2
      · exact z
  · rintro ⟨a, ha, h⟩
    rw [oz_sub_iff] at ha
    have hb : a.testBit v = false := by
      cases z : a.testBit v
      · rfl
      · rw [ha v z] at hv; cases hv
    refine ⟨a, oz_sub_iff.mpr (fun x hx => ?_), by rw [oz_xa hb]; exact h⟩
    rw [Nat.testBit_or, ha x hx, Bool.or_true]
theorem oz_W_Y (tX tY : Nat → Int32) {n p : Nat} {l : List Nat} (h5 : n ≤ 5) (hp : p < n) (hl : oz_PS (2 ^ n - 1) l)
    (hT : ∀ f, f < 3 → ∀ a, a < 2 ^ n → bt (tX f) a = bt (tY f) a) :
    oz_W tX (2 ^ n - 1) (oz_mk (l.drop (p + 1))) (l.getD p 0) = (oz_yl tY l p (2 ^ p * 3)).length := by
  have hlen := oz_full_len h5 hl
  have h32 := oz_pw32 h5
  have hpos : 0 < 2 ^ n := Nat.two_pow_pos n
  have hP : 0 < 2 ^ p := Nat.two_pow_pos p
  have hF := oz_full32 h5
  have hpl : p < l.length := by omega
  have hd := oz_drop hpl
  have ho1 : oz_mk (l.drop p) = 2 ^ (l.getD p 0) ||| oz_mk (l.drop (p + 1)) := by rw [hd]; rfl
  have ho : oz_mk (l.drop (p + 1)) ||| 2 ^ (l.getD p 0) = oz_mk (l.drop p) := by rw [ho1, Nat.or_comm]
  have hon := (oz_PS_drop hl p).2
  have hfx : oz_co (2 ^ n - 1) (oz_mk (l.drop p)) = oz_mk (l.take p) := by
    apply oz_ext
    intro x
    rw [oz_co_t' hF, oz_mk_t, oz_mk_t, ← hl.2 x]
    have hn := hl.1
    rw [← List.take_append_drop p l, List.nodup_append] at hn
    constructor
    · rintro ⟨z, y⟩
      rw [← List.take_append_drop p l, List.mem_append] at z
      exact z.resolve_right y
    · intro z
      refine ⟨List.mem_of_mem_take z, fun y => hn.2.2 x z x y rfl⟩
  have hfn : oz_mk (l.take p) < 2 ^ n := by rw [← hfx]; have := oz_co_le (2 ^ n - 1) (oz_mk (l.drop p)); omega
  have htl : (l.take p).length = p := by rw [List.length_take]; omega
  have hdl : (l.drop p).length = l.length - p := List.length_drop
  have hdl1 : (l.drop (p + 1)).length = l.length - (p + 1) := List.length_drop
  have hv0 := oz_PS_next h5 hl hpl
  have hlt : ∀ {g a : Nat}, g &&& oz_mk (l.take p) = g → a &&& oz_mk (l.drop p) = a → g ||| a < 2 ^ n := by
    intro g a hg ha
    have := oz_sub_le hg
    have := oz_sub_le ha
    exact Nat.or_lt_two_pow (by omega) (by omega)
  unfold oz_W oz_cl oz_yl
  rw [ho, hfx]
  have hol := (oz_len_in (oz_mk (l.drop p)) (by omega)).2
  have hpw : 2 ^ (l.length - p) ≤ 32 := oz_pw32 (by omega)
  apply oz_sq_same (fun i j => i % 3 = j / 2 ^ p ∧ oz_sel (oz_mk (l.take p)) (i / 3) = oz_sp (l.take p) (j % 2 ^ p))
  · intro i hi
    obtain ⟨b, hb, e⟩ := oz_sp_sur (l.take p) (oz_sel (oz_mk (l.take p)) (i / 3)) (oz_sel_sub _ _)
    rw [htl] at hb
    refine ⟨2 ^ p * (i % 3) + b, ?_, ?_, ?_⟩
    · have h3 : i % 3 ≤ 2 := by omega
      have := Nat.mul_le_mul_left (2 ^ p) h3
      omega
    · rw [Nat.mul_add_div hP, Nat.div_eq_of_lt hb]; omega
    · rw [Nat.mul_add_mod, Nat.mod_eq_of_lt hb]; exact e.symm
  · intro j hj
    obtain ⟨h1, h2⟩ := oz_sel_rk (oz_mk (l.take p)) (by omega) (oz_sp (l.take p) (j % 2 ^ p)) (by have := oz_sub_le (oz_sp_sub (l.take p) (j % 2 ^ p)); omega) (oz_sp_sub _ _)
    have h3 : j / 2 ^ p < 3 := (Nat.div_lt_iff_lt_mul hP).mpr (by omega)
    generalize oz_rk (oz_mk (l.take p)) (oz_sp (l.take p) (j % 2 ^ p)) = jj at h1 h2
    generalize j / 2 ^ p = k at h3
    refine ⟨3 * jj + k, by omega, by omega, ?_⟩
    rw [show (3 * jj + k) / 3 = jj by omega]
    exact h2
  · rintro i j hi hj ⟨q1, q2⟩
    have h3 : i % 3 < 3 := by omega
    have hg := oz_sel_sub (oz_mk (l.take p)) (i / 3)
    rw [Bool.eq_iff_iff]
    show oz_dp (oz_qx (tX (i % 3)) (oz_sel (oz_mk (l.take p)) (i / 3)) (oz_mk (l.drop p))) (oz_qy (tX (i % 3)) (oz_sel (oz_mk (l.take p)) (i / 3)) (oz_mk (l.drop p)) (l.getD p 0)) (oz_len (oz_mk (l.drop p))) = true ↔ oz_dp (fun t => oz_yq tY l p j (2 * t)) (fun t => oz_yq tY l p j (2 * t + 1)) (2 ^ (l.length - (p + 1))) = true
    rw [oz_dp_t, oz_dp_t, ← hdl1]
    unfold oz_yq oz_qr oz_qx oz_qy
    rw [← q1, ← q2]
    generalize hgg : oz_sel (oz_mk (l.take p)) (i / 3) = g at hg
    have e1 := oz_sel_ex (o := oz_mk (l.drop p)) (by omega) (fun a => bt (tX (i % 3)) (g ||| a) ≠ bt (tX (i % 3)) (g ||| (a ^^^ 2 ^ (l.getD p 0))))
    have e2 := oz_dep_eq hv0 ho1 (fun a => bt (tX (i % 3)) (g ||| a))
    have e3 := oz_sp_ex (l.drop (p + 1)) (fun a => bt (tX (i % 3)) (g ||| a) ≠ bt (tX (i % 3)) (g ||| (2 ^ (l.getD p 0) ||| a)))
    have e4 : (∃ b, b < 2 ^ (l.drop (p + 1)).length ∧ bt (tX (i % 3)) (g ||| oz_sp (l.drop (p + 1)) b) ≠ bt (tX (i % 3)) (g ||| (2 ^ (l.getD p 0) ||| oz_sp (l.drop (p + 1)) b))) ↔ ∃ b, b < 2 ^ (l.drop (p + 1)).length ∧ bt (tY (i % 3)) (g ||| oz_sp (l.drop p) (2 * b)) ≠ bt (tY (i % 3)) (g ||| oz_sp (l.drop p) (2 * b + 1)) := by
      have : ∀ b, bt (tX (i % 3)) (g ||| oz_sp (l.drop (p + 1)) b) = bt (tY (i % 3)) (g ||| oz_sp (l.drop p) (2 * b)) ∧ bt (tX (i % 3)) (g ||| (2 ^ (l.getD p 0) ||| oz_sp (l.drop (p + 1)) b)) = bt (tY (i % 3)) (g ||| oz_sp (l.drop p) (2 * b + 1)) := by
        intro b
        have y0 := oz_sp_0 (l.getD p 0) (l.drop (p + 1)) b
        have y1 := oz_sp_1 (l.getD p 0) (l.drop (p + 1)) b
        rw [← hd] at y0 y1
        rw [← y1, ← y0]
        exact ⟨hT _ h3 _ (hlt hg (oz_sp_sub _ _)), hT _ h3 _ (hlt hg (oz_sp_sub _ _))⟩
      constructor
      · rintro ⟨b, hb, h⟩; exact ⟨b, hb, by rw [← (this b).1, ← (this b).2]; exact h⟩
      · rintro ⟨b, hb, h⟩; exact ⟨b, hb, by rw [(this b).1, (this b).2]; exact h⟩
    exact e1.trans (e2.trans (e3.symm.trans e4))
  · rintro i j i' j' hi hj hi' hj' ⟨q1, q2⟩ ⟨q1', q2'⟩
    have h3 : i % 3 < 3 := by omega
    have h3' : i' % 3 < 3 := by omega
    have hg := oz_sel_sub (oz_mk (l.take p)) (i / 3)
    have hg' := oz_sel_sub (oz_mk (l.take p)) (i' / 3)
    show oz_bo (oz_qx (tX (i % 3)) (oz_sel (oz_mk (l.take p)) (i / 3)) (oz_mk (l.drop p))) (oz_len (oz_mk (l.drop p))) = oz_bo (oz_qx (tX (i' % 3)) (oz_sel (oz_mk (l.take p)) (i' / 3)) (oz_mk (l.drop p))) (oz_len (oz_mk (l.drop p))) ↔ oz_bo (oz_yq tY l p j) (2 ^ (l.length - p)) = oz_bo (oz_yq tY l p j') (2 ^ (l.length - p))
    rw [oz_bo_eq hol, oz_bo_eq hpw, ← hdl]
    unfold oz_yq oz_qr oz_qx
    rw [← q1, ← q2, ← q1', ← q2']
    generalize hgg : oz_sel (oz_mk (l.take p)) (i / 3) = g at hg
    generalize hgg' : oz_sel (oz_mk (l.take p)) (i' / 3) = g' at hg'
    have e1 := oz_sel_all (o := oz_mk (l.drop p)) (by omega) (fun a => bt (tX (i % 3)) (g ||| a) = bt (tX (i' % 3)) (g' ||| a))
    have e2 := oz_sp_all (l.drop p) (fun a => bt (tX (i % 3)) (g ||| a) = bt (tX (i' % 3)) (g' ||| a))
    refine e1.trans (e2.symm.trans ?_)
    have : ∀ b, bt (tX (i % 3)) (g ||| oz_sp (l.drop p) b) = bt (tY (i % 3)) (g ||| oz_sp (l.drop p) b) ∧ bt (tX (i' % 3)) (g' ||| oz_sp (l.drop p) b) = bt (tY (i' % 3)) (g' ||| oz_sp (l.drop p) b) := fun b =>
      ⟨hT _ h3 _ (hlt hg (oz_sp_sub _ _)), hT _ h3' _ (hlt hg' (oz_sp_sub _ _))⟩
    constructor
    · intro h b hb; rw [← (this b).1, ← (this b).2]; exact h b hb
    · intro h b hb
      show bt (tX (i % 3)) (g ||| oz_sp (l.drop p) b) = bt (tX (i' % 3)) (g' ||| oz_sp (l.drop p) b)
      rw [(this b).1, (this b).2]; exact h b hb
end
section
/-! Y: spread, value, restOf, depends, listed, widthAt, sizeOfOrder -/
theorem oz_btn {b k : Nat} (hk : k < 32) : bt (nI b) k = b.testBit k := by
  show (BitVec.ofNat 32 b).getLsbD k = _
  rw [BitVec.getLsbD_ofNat]
  simp [hk]
section
variable {n : Nat} {fn fr : Int32} {tb pr od re : Nat → Int32}
theorem oy_sp6 (post : Int32 → Prop) (lt : List Nat) (a bits R : Nat) (hb : bits < 2 ^ 31) (hO : oz_OL od lt) (h5 : ∀ x, x ∈ lt → x < 5) (hl5 : lt.length ≤ 5) (hp : post (nI R)) :
    ∀ d p, p + d = lt.length → a ≤ p → ∀ acc, acc ||| oz_sp (lt.drop p) (bits / 2 ^ (p - a)) = R → wY_spread_6 post (nI a) (nI lt.length) (nI bits) fn fr tb pr od re (d + 1) (nI acc) (nI p) := by
  intro d
  induction d with
  | zero =>
    intro p hp' ha acc e
    have e' : p = lt.length := by omega
    rw [List.drop_eq_nil_of_le (by omega)] at e
    have e2 : acc = R := by rw [← e]; exact (Nat.or_zero acc).symm
    subst e2
    exact pk_le lt.length p (fun _ => hp) (fun z => absurd z (by omega))
  | succ d ih =>
    intro p hp' ha acc e
    have hx : lt.getD p 0 < 5 := h5 _ (oz_getD_mem (by omega))
    have hs : ((nI bits >>> ((nI p - nI a) &&& 31)) &&& 1) = 1 ↔ bits / 2 ^ (p - a) % 2 = 1 := by
      rw [pk_sub ha, oz_valY _ (by omega), oz_bi1, oz_btn (by omega), Nat.testBit_eq_decide_div_mod_eq, decide_eq_true_iff]
    have hdd : bits / 2 ^ (p - a) / 2 = bits / 2 ^ (p + 1 - a) := by
      rw [Nat.div_div_eq_div_mul, show p + 1 - a = (p - a) + 1 by omega, Nat.pow_succ]
    rw [oz_drop (l := lt) (p := p) (by omega)] at e
    have e1 : acc ||| ((if bits / 2 ^ (p - a) % 2 = 1 then 2 ^ (lt.getD p 0) else 0) ||| oz_sp (lt.drop (p + 1)) (bits / 2 ^ (p - a) / 2)) = R := e
    rw [hdd] at e1
    refine pk_le lt.length p (fun z => absurd z (by omega)) (fun _ => br_c (fun h => ?_) (fun h => ?_))
    · rw [hs] at h
      rw [if_pos h, ← Nat.or_assoc] at e1
      refine ⟨vp_in_nI (by omega) (by decide), ?_⟩
      rw [nI_clamp (n := p) (by omega), hO p (by omega)]
      exact nm_r (oz_orI hx) (nm_r (nI_1 p) (ih (p + 1) (by omega) (by omega) _ e1))
    · rw [hs] at h
      rw [if_neg h, Nat.zero_or] at e1
      exact nm_r (nI_1 p) (ih (p + 1) (by omega) (by omega) _ e1)
theorem oy_sp (post : Int32 → Prop) (lt : List Nat) (a e bits : Nat) (he : lt.length = e) (ha : a ≤ e) (hb : bits < 2 ^ 31) (hO : oz_OL od lt) (h5 : ∀ x, x ∈ lt → x < 5) (hl5 : e ≤ 5)
    (hp : post (nI (oz_sp (lt.drop a) bits))) : wpY_spread post (fn, fr, tb, pr, od, re) (nI a) (nI e) (nI bits) := by
  subst he
  refine ⟨lt.length - a + 1, oy_sp6 post lt a bits _ hb hO h5 hl5 hp (lt.length - a) a (by omega) (Nat.le_refl a) 0 ?_⟩
  rw [Nat.sub_self, Nat.zero_or]
  show oz_sp (lt.drop a) (bits / 1) = _
  rw [Nat.div_one]
theorem oy_bad0 (post : Int32 → Prop) (f : Nat) (hf : f < 3) (hp : post 0) : wpY_badFunction post (nI f) :=
  br_f (nI_pos (by omega)) (br_t (nI_le (b := 2) (by omega) (by decide)) hp)
theorem oy_val (post : Int32 → Prop) (f a : Nat) (h5 : n ≤ 5) (hf : f < 3) (ha : a < 2 ^ n) (hp : post (oz_bi (bt (tb f) a))) : wpY_value post (nI n, fr, tb, pr, od, re) (nI f) (nI a) := by
  have h32 := oz_pw32 h5
  unfold wpY_value
  dsimp only
  refine oy_bad0 _ f hf (br_t rfl (br_f (nI_pos (by omega)) ?_))
  rw [oz_pw n (by omega), nI_clamp (n := f) (by omega), oz_valY _ (by omega)]
  exact br_t (nI_lt ha (by omega)) ⟨vp_in_nI hf (by decide), hp⟩
theorem oz_pwI (h5 : n ≤ 5) {p : Nat} (hp : p ≤ n) : (1 : Int32) <<< ((nI n - nI p) &&& 31) = nI (2 ^ (n - p)) := by
  rw [pk_sub hp, oz_pw _ (by omega)]
theorem oy_rO15 (post : Int32 → Prop) (l : List Nat) (f p g : Nat) (h5 : n ≤ 5) (hf : f < 3) (hpn : p < n) (hl : oz_PS (2 ^ n - 1) l) (hO : oz_OL od l) (hg : g < 2 ^ n)
    (hp : post (oz_bo (oz_qr (tb f) g (l.drop p)) (2 ^ (n - p)))) :
    ∀ d s, s + d = 2 ^ (n - p) → wY_restOf_15 post (nI f) (nI p) (nI g) (nI n) fr tb pr od re (d + 1) (oz_bo (oz_qr (tb f) g (l.drop p)) s) (nI s) := by
  have hlen := oz_full_len h5 hl
  have h32 : 2 ^ (n - p) ≤ 32 := oz_pw32 (by omega)
  have hpos : 0 < 2 ^ n := Nat.two_pow_pos n
  intro d
  induction d with
  | zero =>
    intro s hs
    have e : s = 2 ^ (n - p) := by omega
    subst e
    exact pk_le (2 ^ (n - p)) (2 ^ (n - p)) (fun _ => hp) (fun z => absurd z (by omega)) (oz_pwI h5 (by omega))
  | succ d ih =>
    intro s hs
    have K := ih (s + 1) (by omega)
    refine pk_le (2 ^ (n - p)) s (fun z => absurd z (by omega)) (fun _ => ?_) (oz_pwI h5 (by omega))
    refine oy_sp _ l p n s hlen (by omega) (by omega) hO (fun x hx => ?_) h5 ?_
    · have := oz_PS_lt (n := n) hl (by omega) hx; omega
    · have ha : g ||| oz_sp (l.drop p) s < 2 ^ n := Nat.or_lt_two_pow hg (by
        have h1 := (oz_PS_drop hl p).2
        have h2 := oz_sub_le (oz_sp_sub (l.drop p) s)
        omega)
      refine nm_r (oz_or g _) (oy_val _ f _ h5 hf ha ?_)
      have e : oz_bo (oz_qr (tb f) g (l.drop p)) (s + 1) = oz_bo (oz_qr (tb f) g (l.drop p)) s ||| (oz_bi (bt (tb f) (g ||| oz_sp (l.drop p) s)) <<< (nI s &&& 31)) := rfl
      rw [e] at K
      refine br_c (fun h => ?_) (fun h => ?_)
      · rw [h] at K
        exact nm_e (nm_r (nI_1 s) K)
      · rw [oz_bi1, Bool.not_eq_true] at h
        rw [h, show oz_bi false = 0 from rfl, oz_shl0 s (by omega), oz_or0] at K
        exact nm_r (nI_1 s) K
theorem oz_OL_take {l : List Nat} (hO : oz_OL od l) (p : Nat) : oz_OL od (l.take p) := by
  intro q hq
  rw [List.length_take] at hq
  rw [hO q (by omega), List.getD_eq_getElem?_getD, List.getD_eq_getElem?_getD, List.getElem?_take_of_lt (by omega)]
theorem oy_rO (post : Int32 → Prop) (l : List Nat) (f p b : Nat) (h5 : n ≤ 5) (hf : f < 3) (hpn : p < n) (hb : b < 2 ^ 31) (hl : oz_PS (2 ^ n - 1) l) (hO : oz_OL od l)
    (hp : post (oz_bo (oz_qr (tb f) (oz_sp (l.take p) b) (l.drop p)) (2 ^ (n - p)))) :
    wpY_restOf post (nI n, fr, tb, pr, od, re) (nI f) (nI p) (nI b) := by
  have hlen := oz_full_len h5 hl
  have hpos : 0 < 2 ^ n := Nat.two_pow_pos n
  have hmem : ∀ x, x ∈ l.take p → x < n := fun x hx => oz_PS_lt (n := n) hl (by omega) (List.mem_of_mem_take hx)
  unfold wpY_restOf
  dsimp only
  refine oy_sp _ (l.take p) 0 p b (by rw [List.length_take]; omega) (by omega) hb (oz_OL_take hO p) (fun x hx => ?_) (by omega) ?_
  · have := hmem x hx; omega
  · refine ⟨2 ^ (n - p) + 1, oy_rO15 post l f p (oz_sp (l.take p) b) h5 hf hpn hl hO ?_ hp (2 ^ (n - p)) 0 (by omega)⟩
    exact oz_ltn (fun x hx => hmem x (oz_sp_t _ _ x hx))
theorem oy_dp2 (post : Int32 → Prop) (q : Nat → Bool) (p M : Nat) (h5 : n ≤ 5) (hpn : p < n) (hM : 2 ^ (n - p) = 2 * M) (hp : post (oz_bi (oz_dr q M))) :
    ∀ d t, t + d = M → oz_dr q t = false → wY_depends_2 post (oz_bo q (2 ^ (n - p))) (nI p) (nI n) fr tb pr od re (d + 1) (nI (2 * t)) := by
  have h32 : 2 ^ (n - p) ≤ 32 := oz_pw32 (by omega)
  intro d
  induction d with
  | zero =>
    intro t ht hd
    have e : t = M := by omega
    subst e
    rw [hd] at hp
    exact pk_le (2 ^ (n - p)) (2 * t) (fun _ => hp) (fun z => absurd z (by omega)) (oz_pwI h5 (by omega))
  | succ d ih =>
    intro t ht hd
    refine pk_le (2 ^ (n - p)) (2 * t) (fun z => absurd z (by omega)) (fun _ => ?_) (oz_pwI h5 (by omega))
    have e : oz_dr q (t + 1) = (oz_dr q t || (q (2 * t) != q (2 * t + 1))) := rfl
    rw [nI_1, oz_valY _ (by omega), oz_valY _ (by omega), oz_bo_t q _ h32 _ (by omega), oz_bo_t q _ h32 _ (by omega), decide_eq_true (by omega : 2 * t < 2 ^ (n - p)), decide_eq_true (by omega : 2 * t + 1 < 2 ^ (n - p)), Bool.true_and, Bool.true_and]
    refine br_c (fun h => ?_) (fun h => ?_)
    · rw [oz_biE] at h
      rw [hd, h, bne_self_eq_false, Bool.false_or] at e
      exact nm_r (nI_add (2 * t) 2) (ih (t + 1) (by omega) e)
    · rw [oz_biE] at h
      have : oz_dr q M = true := (oz_dp_t _ _ M).mpr ⟨t, by omega, h⟩
      rw [this] at hp
      exact hp
theorem oy_dp (post : Int32 → Prop) (q : Nat → Bool) (p : Nat) (h5 : n ≤ 5) (hpn : p < n) (hp : post (oz_bi (oz_dr q (2 ^ (n - (p + 1)))))) :
    wpY_depends post (nI n, fr, tb, pr, od, re) (oz_bo q (2 ^ (n - p))) (nI p) := by
  have hM : 2 ^ (n - p) = 2 * 2 ^ (n - (p + 1)) := by rw [show n - p = (n - (p + 1)) + 1 by omega, Nat.pow_succ]; omega
  exact ⟨_, oy_dp2 post q p _ h5 hpn hM hp (2 ^ (n - (p + 1))) 0 (by omega) rfl⟩
theorem oy_li2 (post : Int32 → Prop) (r : Int32) (L : List Int32) (hH : oz_H L re) (hl : L.length ≤ 48) (hp : post (oz_bi (decide (r ∈ L)))) :
    ∀ d k, k + d = L.length → (∀ j, j < k → re j ≠ r) → wY_listed_2 post r fn (nI L.length) tb pr od re (d + 1) (nI k) := by
  intro d
  induction d with
  | zero =>
    intro k hk hn
    have hm : ¬ r ∈ L := fun z => by
      obtain ⟨j, hj, e⟩ := (oz_H_mem hH).mp z
      exact hn j (by omega) e
    rw [decide_eq_false hm] at hp
    exact pk_le L.length k (fun _ => hp) (fun z => absurd z (by omega))
  | succ d ih =>
    intro k hk hn
    refine pk_le L.length k (fun z => absurd z (by omega)) (fun _ => ⟨vp_in_nI (by omega) (by decide), ?_⟩)
    rw [nI_clamp (by omega)]
    by_cases z : re k = r
    · rw [decide_eq_true ((oz_H_mem hH).mpr ⟨k, by omega, z⟩)] at hp
      exact br_t z hp
    · refine br_f z (nm_r (nI_1 k) (ih (k + 1) (by omega) (fun j hj => ?_)))
      by_cases y : j = k
      · subst y; exact z
      · exact hn j (by omega)
theorem oy_li (post : Int32 → Prop) (r : Int32) (L : List Int32) (hH : oz_H L re) (hl : L.length ≤ 48) (hp : post (oz_bi (decide (r ∈ L)))) :
    wpY_listed post (fn, nI L.length, tb, pr, od, re) r :=
  ⟨_, oy_li2 post r L hH hl hp L.length 0 (by omega) (fun j hj => absurd hj (Nat.not_lt_zero j))⟩
end
section
variable {n : Nat} {tb pr od : Nat → Int32}
theorem oy_wA14 (post : Int32 → SY → Prop) (J : Int32 → Int32 → (Nat → Int32) → (Nat → Int32) → (Nat → Int32) → (Nat → Int32) → Prop) (l : List Nat) (f p : Nat)
    (h5 : n ≤ 5) (hf : f < 3) (hpn : p < n) (hl : oz_PS (2 ^ n - 1) l) (hO : oz_OL od l)
    (hJ : ∀ re, oz_H (oz_yl tb l p (2 ^ p * (f + 1))) re → J (nI (f + 1)) (nI (oz_yl tb l p (2 ^ p * (f + 1))).length) tb pr od re) :
    ∀ d b, b + d = 2 ^ p → ∀ re, oz_H (oz_yl tb l p (2 ^ p * f + b)) re → wY_widthAt_14 post J (nI p) (nI f) (nI n) (d + 1) (nI b) (nI (oz_yl tb l p (2 ^ p * f + b)).length) tb pr od re := by
  have hlen := oz_full_len h5 hl
  have hP : 2 ^ p ≤ 16 := (Nat.pow_le_pow_right (by decide) (by omega) : 2 ^ p ≤ 2 ^ 4)
  have hP0 : 0 < 2 ^ p := Nat.two_pow_pos p
  intro d
  induction d with
  | zero =>
    intro b hb re hH
    have e : b = 2 ^ p := by omega
    subst e
    have e2 : 2 ^ p * f + 2 ^ p = 2 ^ p * (f + 1) := by rw [Nat.mul_succ]
    rw [e2] at hH ⊢
    exact pk_le (2 ^ p) (2 ^ p) (fun _ => nm_r (nI_1 f) (hJ re hH)) (fun z => absurd z (by omega)) (oz_pw p (by omega))
  | succ d ih =>
    intro b hb re hH
    have hk1 : (2 ^ p * f + b) / 2 ^ p = f := by rw [Nat.mul_add_div hP0, Nat.div_eq_of_lt (by omega)]; omega
    have hk2 : (2 ^ p * f + b) % 2 ^ p = b := by rw [Nat.mul_add_mod, Nat.mod_eq_of_lt (by omega)]
    have hq : oz_yq tb l p (2 ^ p * f + b) = oz_qr (tb f) (oz_sp (l.take p) b) (l.drop p) := by
      unfold oz_yq; rw [hk1, hk2]
    have hs : oz_yl tb l p (2 ^ p * f + (b + 1)) = oz_ins (oz_yl tb l p (2 ^ p * f + b)) (oz_dr (oz_yq tb l p (2 ^ p * f + b)) (2 ^ (n - (p + 1)))) (oz_bo (oz_yq tb l p (2 ^ p * f + b)) (2 ^ (n - p))) := by
      rw [← hlen]; rfl
    have hL : (oz_yl tb l p (2 ^ p * f + b)).length ≤ 2 ^ p * f + b := oz_sq_len _ _ _
    have hLb : (oz_yl tb l p (2 ^ p * f + b)).length < 48 := by
      have hf2 : f ≤ 2 := by omega
      have := Nat.mul_le_mul_left (2 ^ p) hf2
      omega
    have K := ih (b + 1) (by omega)
    rw [hs] at K
    refine pk_le (2 ^ p) b (fun z => absurd z (by omega)) (fun _ => ?_) (oz_pw p (by omega))
    refine oy_rO _ l f p b h5 hf hpn (by omega) hl hO ?_
    rw [← hq]
    generalize oz_yq tb l p (2 ^ p * f + b) = q at K
    generalize oz_yl tb l p (2 ^ p * f + b) = L at K hH hLb
    refine oy_dp _ q p h5 hpn ?_
    generalize oz_bo q (2 ^ (n - p)) = r at K
    cases hd : oz_dr q (2 ^ (n - (p + 1)))
    · have e : oz_ins L false r = L := if_neg (fun y => nomatch y.1)
      rw [hd, e] at K
      exact br_t rfl (nm_r (nI_1 b) (K re hH))
    · rw [hd] at K
      refine br_f (by decide) (oy_li _ r L hH (by omega) ?_)
      by_cases hm : r ∈ L
      · have e : oz_ins L true r = L := if_neg (fun y => y.2 hm)
        rw [e] at K
        rw [decide_eq_true hm]
        exact br_f (by decide) (nm_r (nI_1 b) (K re hH))
      · have e : oz_ins L true r = L ++ [r] := if_pos ⟨rfl, hm⟩
        rw [e, List.length_append, List.length_singleton] at K
        rw [decide_eq_false hm]
        have h48 : ¬ (48 : Int32) ≤ nI L.length := nI_ge (b := 48) hLb (by decide)
        refine br_t rfl (br_f h48 ⟨vp_in_nI hLb (by decide), nm_r ?_ (nm_r (nI_1 _) (nm_r (nI_1 b) (K _ (oz_H_put hH r))))⟩)
        rw [nI_clamp (by omega)]
theorem oy_wA7 (post : Int32 → SY → Prop) (l : List Nat) (p : Nat) (h5 : n ≤ 5) (hpn : p < n) (hl : oz_PS (2 ^ n - 1) l) (hO : oz_OL od l)
    (hp : ∀ fr re, post (nI (oz_yl tb l p (2 ^ p * 3)).length) (nI n, fr, tb, pr, od, re)) :
    ∀ d f, f + d = 3 → ∀ re, oz_H (oz_yl tb l p (2 ^ p * f)) re → wY_widthAt_7 post (nI p) (nI n) (d + 1) (nI f) (nI (oz_yl tb l p (2 ^ p * f)).length) tb pr od re := by
  intro d
  induction d with
  | zero =>
    intro f hf re hH
    have e : f = 3 := by omega
    subst e
    exact br_t (by decide) (hp _ re)
  | succ d ih =>
    intro f hf re hH
    have h3 : ¬ (3 : Int32) ≤ nI f := nI_ge (b := 3) (by omega) (by decide)
    exact br_f h3 ⟨_, oy_wA14 post _ l f p h5 (by omega) hpn hl hO (fun re' h => ih (f + 1) (by omega) re' h) (2 ^ p) 0 (by omega) re hH⟩
theorem oy_wA (post : Int32 → SY → Prop) (l : List Nat) (p : Nat) (fr : Int32) (re : Nat → Int32) (h5 : n ≤ 5) (hpn : p < n) (hl : oz_PS (2 ^ n - 1) l) (hO : oz_OL od l)
    (hp : ∀ fr re, post (nI (oz_yl tb l p (2 ^ p * 3)).length) (nI n, fr, tb, pr, od, re)) :
    wpY_widthAt post (nI n, fr, tb, pr, od, re) (nI p) :=
  ⟨4, oy_wA7 post l p h5 hpn hl hO hp 3 0 rfl re (oz_H0 re)⟩
/-- Y's width in X's words -/
theorem oy_wAX (post : Int32 → SY → Prop) (tX : Nat → Int32) (l : List Nat) (p : Nat) (fr : Int32) (re : Nat → Int32) (h5 : n ≤ 5) (hpn : p < n) (hl : oz_PS (2 ^ n - 1) l) (hO : oz_OL od l)
    (hT : ∀ f, f < 3 → ∀ a, a < 2 ^ n → bt (tX f) a = bt (tb f) a)
    (hp : ∀ fr re, post (nI (oz_W tX (2 ^ n - 1) (oz_mk (l.drop (p + 1))) (l.getD p 0))) (nI n, fr, tb, pr, od, re)) :
    wpY_widthAt post (nI n, fr, tb, pr, od, re) (nI p) := by
  rw [oz_W_Y tX tb h5 hpn hl hT] at hp
  exact oy_wA post l p fr re h5 hpn hl hO hp
theorem oy_sO4 (post : Int32 → SY → Prop) (tX : Nat → Int32) (l : List Nat) (h5 : n ≤ 5) (hl : oz_PS (2 ^ n - 1) l) (hO : oz_OL od l)
    (hT : ∀ f, f < 3 → ∀ a, a < 2 ^ n → bt (tX f) a = bt (tb f) a)
    (hp : ∀ fr re, post (nI (oz_szB (oz_W tX (2 ^ n - 1)) l)) (nI n, fr, tb, pr, od, re)) :
    ∀ d p, p + d = n → ∀ s fr re, s + oz_szB (oz_W tX (2 ^ n - 1)) (l.drop p) = oz_szB (oz_W tX (2 ^ n - 1)) l → wY_sizeOfOrder_4 post (d + 1) (nI s) (nI p) (nI n) fr tb pr od re := by
  have hlen := oz_full_len h5 hl
  intro d
  induction d with
  | zero =>
    intro p hpn s fr re hs
    have e' : p = n := by omega
    subst e'
    rw [List.drop_eq_nil_of_le (by omega)] at hs
    have e : s = oz_szB (oz_W tX (2 ^ p - 1)) l := hs
    subst e
    exact pk_le p p (fun _ => hp fr re) (fun z => absurd z (by omega))
  | succ d ih =>
    intro p hpn s fr re hs
    refine pk_le n p (fun z => absurd z (by omega)) (fun _ => ?_)
    refine oy_wAX _ tX l p fr re h5 (by omega) hl hO hT (fun fr' re' => ?_)
    refine nm_r (nI_add _ _) (nm_r (nI_1 p) (ih (p + 1) (by omega) _ fr' re' ?_))
    rw [oz_szB_drop _ (by omega)] at hs
    omega
theorem oy_sO (post : Int32 → SY → Prop) (tX : Nat → Int32) (l : List Nat) (fr : Int32) (re : Nat → Int32) (h5 : n ≤ 5) (hl : oz_PS (2 ^ n - 1) l) (hO : oz_OL od l)
    (hT : ∀ f, f < 3 → ∀ a, a < 2 ^ n → bt (tX f) a = bt (tb f) a)
    (hp : ∀ fr re, post (nI (oz_szB (oz_W tX (2 ^ n - 1)) l)) (nI n, fr, tb, pr, od, re)) :
    wpY_sizeOfOrder post (nI n, fr, tb, pr, od, re) :=
  ⟨_, oy_sO4 post tX l h5 hl hO hT hp n 0 (by omega) 0 fr re (Nat.zero_add _)⟩
end
end
section
/-! Y: the orders one by one -/
section
variable {n : Nat} {fn fr : Int32} {tb pr re : Nat → Int32}
theorem oy_lP2 (post : SY → Prop) (hp : ∀ od', (∀ p, p < 5 → od' p = pr p) → post (fn, fr, tb, pr, od', re)) :
    ∀ d p, p + d = 5 → ∀ od, (∀ q, q < p → od q = pr q) → wY_layPresent_2 post fn fr (d + 1) (nI p) tb pr od re := by
  intro d
  induction d with
  | zero =>
    intro p h od hI
    have e : p = 5 := by omega
    subst e
    exact br_t (by decide) (hp od hI)
  | succ d ih =>
    intro p h od hI
    have h5 : ¬ (5 : Int32) ≤ nI p := nI_ge (b := 5) (by omega) (by decide)
    refine br_f h5 ⟨vp_in_nI (by omega) (by decide), vp_in_nI (by omega) (by decide), ?_⟩
    rw [nI_clamp (n := p) (by omega)]
    refine nm_e (nm_r (nI_1 p) (ih (p + 1) (by omega) _ (fun q hq => ?_)))
    by_cases e : q = p
    · subst e; exact pk_us
    · rw [pk_un e]; exact hI q (by omega)
theorem oy_lP (post : SY → Prop) (od : Nat → Int32) (hp : ∀ od', (∀ p, p < 5 → od' p = pr p) → post (fn, fr, tb, pr, od', re)) : wpY_layPresent post (fn, fr, tb, pr, od, re) :=
  ⟨6, oy_lP2 post hp 5 0 rfl od (fun q hq => absurd hq (Nat.not_lt_zero q))⟩
theorem oy_st2 (post : SY → Prop) (hp : ∀ od', (∀ p, p < 5 → od' p = nI p) → post (fn, fr, tb, pr, od', re)) :
    ∀ d p, p + d = 5 → ∀ od, (∀ q, q < p → od q = nI q) → wY_start_2 post fn fr (d + 1) (nI p) tb pr od re := by
  intro d
  induction d with
  | zero =>
    intro p h od hI
    have e : p = 5 := by omega
    subst e
    exact br_t (by decide) (hp od hI)
  | succ d ih =>
    intro p h od hI
    have h5 : ¬ (5 : Int32) ≤ nI p := nI_ge (b := 5) (by omega) (by decide)
    refine br_f h5 ⟨vp_in_nI (by omega) (by decide), ?_⟩
    rw [nI_clamp (n := p) (by omega)]
    refine nm_e (nm_r (nI_1 p) (ih (p + 1) (by omega) _ (fun q hq => ?_)))
    by_cases e : q = p
    · subst e; exact pk_us
    · rw [pk_un e]; exact hI q (by omega)
theorem oy_st (post : SY → Prop) (od : Nat → Int32) (hp : ∀ od', (∀ p, p < 5 → od' p = nI p) → post (fn, fr, tb, pr, od', re)) : wpY_start post (fn, fr, tb, pr, od, re) :=
  ⟨6, oy_st2 post hp 5 0 rfl od (fun q hq => absurd hq (Nat.not_lt_zero q))⟩
/-! next -/
theorem oz_sw_len (l : List Nat) (i j : Nat) : (oz_sw l i j).length = l.length := by
  unfold oz_sw; rw [List.length_set, List.length_set]
theorem oz_set_getD {l : List Nat} {i p a : Nat} (hi : i < l.length) : (l.set i a).getD p 0 = if p = i then a else l.getD p 0 := by
  rw [List.getD_eq_getElem?_getD, List.getD_eq_getElem?_getD]
  by_cases e : p = i
  · subst e
    rw [if_pos rfl, List.getElem?_set_self hi]; rfl
  · rw [if_neg e, List.getElem?_set_ne (fun z => e z.symm)]
theorem oz_OL_sw {od : Nat → Int32} {l : List Nat} {i j : Nat} (hO : oz_OL od l) (hi : i < l.length) (hj : j < l.length) : oz_OL (upd (upd od i (od j)) j (od i)) (oz_sw l i j) := by
  intro p hp
  rw [oz_sw_len] at hp
  unfold oz_sw
  rw [oz_set_getD (by rw [List.length_set]; exact hj), oz_set_getD hi]
  by_cases e : p = j
  · subst e; rw [pk_us, if_pos rfl]; exact hO i hi
  · rw [pk_un e, if_neg e]
    by_cases e2 : p = i
    · subst e2; rw [pk_us, if_pos rfl]; exact hO j hj
    · rw [pk_un e2, if_neg e2]; exact hO p hp
theorem oy_n112 (post : Int32 → SY → Prop) (h5 : n ≤ 5) : ∀ (d : Nat) (l : List Nat) (lo hi : Nat) (od : Nat → Int32), l.length = n → oz_OL od l → hi < n → lo < 2 ^ 30 → hi ≤ lo + d →
    (∀ od', oz_OL od' (oz_rv d l lo hi) → post 1 (fn, fr, tb, pr, od', re)) → wY_next_112 post fn fr (d + 1) (nI lo) (nI hi) tb pr od re := by
  intro d
  induction d with
  | zero =>
    intro l lo hi od hl hO hh hlo hd hp
    exact pk_le hi lo (fun _ => hp od hO) (fun z => absurd z (by omega))
  | succ d ih =>
    intro l lo hi od hl hO hh hlo hd hp
    refine pk_le hi lo (fun h => ?_) (fun h => ⟨vp_in_nI (by omega) (by decide), ?_⟩)
    · have e : oz_rv (d + 1) l lo hi = l := if_pos h
      rw [e] at hp
      exact hp od hO
    · have e : oz_rv (d + 1) l lo hi = oz_rv d (oz_sw l lo hi) (lo + 1) (hi - 1) := if_neg (by omega)
      rw [e] at hp
      have e2 : nI hi + (-1) = nI (hi - 1) := by
        obtain ⟨h', rfl⟩ : ∃ h', hi = h' + 1 := ⟨hi - 1, by omega⟩
        exact pk_m1 h'
      rw [nI_clamp (n := lo) (by omega), nI_clamp (n := hi) (by omega)]
      exact nm_e ⟨vp_in_nI (by omega) (by decide), vp_in_nI (by omega) (by decide), nm_e ⟨vp_in_nI (by omega) (by decide), nm_e (nm_r (nI_1 lo) (nm_r e2 (ih (oz_sw l lo hi) (lo + 1) (hi - 1) _ (by rw [oz_sw_len]; exact hl) (oz_OL_sw hO (by omega) (by omega)) (by omega) (by omega) (by omega) hp)))⟩⟩
theorem oy_n73 (post : Int32 → SY → Prop) (h5 : n ≤ 5) (h1 : 1 ≤ n) (l : List Nat) (i j : Nat) (od : Nat → Int32) (hl : l.length = n) (hO : oz_OL od l) (hi : i < n) (hj : j < n)
    (hp : ∀ od', oz_OL od' (oz_rv n (oz_sw l i j) (i + 1) (n - 1)) → post 1 (nI n, fr, tb, pr, od', re)) : wY_next_73 post (nI i) (nI j) (nI n) fr tb pr od re := by
  have e : nI n - 1 = nI (n - 1) := by
    show nI n - nI 1 = _
    exact pk_sub h1
  unfold wY_next_73
  rw [nI_clamp (n := i) (by omega), nI_clamp (n := j) (by omega)]
  exact ⟨vp_in_nI (by omega) (by decide), nm_e ⟨vp_in_nI (by omega) (by decide), vp_in_nI (by omega) (by decide), nm_e ⟨vp_in_nI (by omega) (by decide), nm_e (nm_r (nI_1 i) (nm_r e ⟨_, oy_n112 post h5 n (oz_sw l i j) (i + 1) (n - 1) _ (by rw [oz_sw_len]; exact hl) (oz_OL_sw hO (by omega) (by omega)) (by omega) (by omega) (by omega) hp⟩))⟩⟩⟩
theorem oz_fj_le (l : List Nat) (i : Nat) : ∀ j, oz_fj l i j ≤ j := by
  intro j
  induction j with
  | zero => exact Nat.le_refl 0
  | succ j ih =>
    show (if j + 1 ≤ i then j + 1 else if l.getD i 0 ≤ l.getD (j + 1) 0 then j + 1 else oz_fj l i j) ≤ j + 1
    split
    · omega
    · split
      · omega
      · omega
theorem oy_n47 (post : Int32 → SY → Prop) (h5 : n ≤ 5) (l : List Nat) (i : Nat) (od : Nat → Int32) (hl : l.length = n) (hx : ∀ x, x ∈ l → x < 5) (hO : oz_OL od l) (hi : i < n) :
    ∀ j, j < n → wY_next_73 post (nI i) (nI (oz_fj l i j)) (nI n) fr tb pr od re → wY_next_47 post (nI i) (nI n) fr tb pr od re (j + 1) (nI j) := by
  intro j
  induction j with
  | zero =>
    intro hj h
    exact pk_le 0 i (fun _ => h) (fun z => absurd z (by omega))
  | succ j ih =>
    intro hj h
    have e : oz_fj l i (j + 1) = if j + 1 ≤ i then j + 1 else if l.getD i 0 ≤ l.getD (j + 1) 0 then j + 1 else oz_fj l i j := rfl
    have x1 := hx _ (oz_getD_mem (l := l) (p := i) (by omega))
    have x2 := hx _ (oz_getD_mem (l := l) (p := j + 1) (by omega))
    rw [e] at h
    refine pk_le (j + 1) i (fun z => ?_) (fun z => ⟨vp_in_nI (by omega) (by decide), vp_in_nI (by omega) (by decide), ?_⟩)
    · rw [if_pos z] at h; exact h
    · rw [if_neg (by omega)] at h
      rw [nI_clamp (n := i) (by omega), nI_clamp (n := j + 1) (by omega), hO i (by omega), hO (j + 1) (by omega)]
      refine pk_le _ _ (fun y => ?_) (fun y => ?_)
      · rw [if_pos y] at h; exact h
      · rw [if_neg (by omega)] at h
        exact nm_r (pk_m1 j) (ih (by omega) h)
def oz_im : Nat → Int32
  | 0 => -1
  | i + 1 => nI i
theorem oz_im_p : ∀ i, nI i + (-1) = oz_im i := by
  intro i
  cases i with
  | zero => rfl
  | succ i => exact pk_m1 i
theorem oy_n7 (post : Int32 → SY → Prop) (h5 : n ≤ 5) (l : List Nat) (od : Nat → Int32) (hl : l.length = n) (hx : ∀ x, x ∈ l → x < 5) (hO : oz_OL od l) :
    ∀ k, k < n → (oz_fi l k = none → wY_next_34 post (-1) (nI n) fr tb pr od re) → (∀ i, oz_fi l k = some i → i < k → wY_next_34 post (nI i) (nI n) fr tb pr od re) → wY_next_7 post (nI n) fr tb pr od re (k + 1) (oz_im k) := by
  intro k
  induction k with
  | zero =>
    intro hk h0 _
    exact br_t (by decide) (h0 rfl)
  | succ i ih =>
    intro hk h0 h1
    have e : oz_fi l (i + 1) = if l.getD i 0 ≤ l.getD (i + 1) 0 then some i else oz_fi l i := rfl
    have x1 := hx _ (oz_getD_mem (l := l) (p := i) (by omega))
    have x2 := hx _ (oz_getD_mem (l := l) (p := i + 1) (by omega))
    rw [e] at h0 h1
    show wY_next_7 post (nI n) fr tb pr od re (i + 1 + 1) (nI i)
    have hneg : ¬ nI i < 0 := nI_pos (by omega)
    refine br_f hneg ?_
    rw [nI_1, nI_clamp (n := i) (by omega), nI_clamp (n := i + 1) (by omega), hO i (by omega), hO (i + 1) (by omega)]
    refine ⟨vp_in_nI (by omega) (by decide), vp_in_nI (by omega) (by decide), pk_le _ _ (fun y => ?_) (fun y => ?_)⟩
    · rw [if_pos y] at h1
      exact h1 i rfl (by omega)
    · rw [if_neg (by omega)] at h0 h1
      exact nm_r (oz_im_p i) (ih (by omega) h0 (fun i' hi' hlt => h1 i' hi' (by omega)))
theorem oz_n2 : ∀ n, n < 6 → 1 ≤ n → nI n - 2 = oz_im (n - 1) := by decide +kernel
theorem oy_next (post : Int32 → SY → Prop) (h5 : n ≤ 5) (h1 : 1 ≤ n) (l : List Nat) (od : Nat → Int32) (hl : l.length = n) (hx : ∀ x, x ∈ l → x < 5) (hO : oz_OL od l)
    (h0 : oz_next n l = none → post 0 (nI n, fr, tb, pr, od, re)) (hs : ∀ l', oz_next n l = some l' → ∀ od', oz_OL od' l' → post 1 (nI n, fr, tb, pr, od', re)) :
    wpY_next post (nI n, fr, tb, pr, od, re) := by
  have e : nI n - 1 = nI (n - 1) := by
    show nI n - nI 1 = _
    exact pk_sub h1
  refine nm_r (oz_n2 n (by omega) h1) ⟨n - 1 + 1, oy_n7 post h5 l od hl hx hO (n - 1) (by omega) (fun z => ?_) (fun i z hi => ?_)⟩
  · unfold oz_next at h0
    rw [z] at h0
    exact br_f (by decide) (h0 rfl)
  · unfold oz_next at hs
    rw [z] at hs
    have hp : (0 : Int32) ≤ nI i := nI_pos' (by omega)
    have hj := oz_fj_le l i (n - 1)
    refine br_t hp (nm_r e ⟨n - 1 + 1, oy_n47 post h5 l i od hl hx hO (by omega) (n - 1) (by omega) ?_⟩)
    exact oy_n73 post h5 h1 l i _ od hl hO (by omega) (by omega) (hs _ rfl)
end
/-! lowest, greatest, best -/
section
variable {n : Nat} {tb pr : Nat → Int32}
theorem oy_lo14 (post : Int32 → SY → Prop) (x1 x2 : Int32) (P : List Nat → Bool) (tX : Nat → Int32) (h5 : n ≤ 5) (h1 : 1 ≤ n)
    (hT : ∀ f, f < 3 → ∀ a, a < 2 ^ n → bt (tX f) a = bt (tb f) a)
    (hP : ∀ l od, oz_PS (2 ^ n - 1) l → oz_OL od l → ∀ A B : Prop, (P l = true → A) → (P l = false → B) → ((x1 < 0 → A) ∧ (¬ x1 < 0 → (vp_in x2 5 ∧ ((od x2.toNatClampNeg = x1 → A) ∧ (¬ od x2.toNatClampNeg = x1 → B)))))) :
    ∀ (ls : List (List Nat)) (l : List Nat), oz_chk n (l :: ls) = true → (∀ l', l' ∈ l :: ls → oz_PS (2 ^ n - 1) l') → ∀ (i acc : Nat) (fr : Int32) (od re : Nat → Int32), i + (ls.length + 1) ≤ 120 → acc ≤ 1000 → oz_OL od l →
      (∀ fr od re, post (nI (oz_fm P (oz_szB (oz_W tX (2 ^ n - 1))) (l :: ls) acc)) (nI n, fr, tb, pr, od, re)) →
      wY_lowest_14 post x1 x2 (ls.length + 2) (nI acc) 1 (nI i) (nI n) fr tb pr od re := by
  have h32 := oz_full32 h5
  intro ls
  induction ls with
  | nil =>
    intro l hc hPS i acc fr od re hi ha hO hp
    have hl := hPS l List.mem_cons_self
    have hlen := oz_full_len h5 hl
    have hx : ∀ x, x ∈ l → x < 5 := fun x hx => oz_PS_lt (n := 5) hl h32 hx
    have hsz := oz_szB_240 (oz_W48 tX h5) h32 hl
    have hnx : oz_next n l = none := beq_iff_eq.mp hc
    have N : ∀ (a : Nat) (fr : Int32) (re : Nat → Int32), (∀ fr od re, post (nI a) (nI n, fr, tb, pr, od, re)) → wY_lowest_55 post (wY_lowest_14 post x1 x2 1) x1 x2 (nI a) (nI i) (nI n) fr tb pr od re := by
      intro a fr re h
      refine oy_next _ h5 h1 l od hlen hx hO (fun _ => ?_) (fun l' z => by rw [hnx] at z; cases z)
      refine nm_r (nI_1 i) ?_
      exact br_c (fun _ => h _ _ _) (fun _ => br_t rfl (h _ _ _))
    have h120 : ¬ (120 : Int32) ≤ nI i := nI_ge (b := 120) (by omega) (by decide)
    refine br_f h120 (br_f (by decide) (hP l od hl hO _ _ (fun hb => ?_) (fun hb => ?_)))
    · have e : oz_fm P (oz_szB (oz_W tX (2 ^ n - 1))) [l] acc = min acc (oz_szB (oz_W tX (2 ^ n - 1)) l) := if_pos hb
      rw [e] at hp
      refine oy_sO _ tX l fr re h5 hl hO hT (fun fr' re' => ?_)
      refine pk_le acc (oz_szB (oz_W tX (2 ^ n - 1)) l) (fun z => N acc fr' re' ?_) (fun z => N _ fr' re' ?_)
      · rw [Nat.min_eq_left z] at hp; exact hp
      · rw [Nat.min_eq_right (by omega)] at hp; exact hp
    · have e : oz_fm P (oz_szB (oz_W tX (2 ^ n - 1))) [l] acc = acc := if_neg (by rw [hb]; decide)
      rw [e] at hp
      exact N acc fr re hp
  | cons b ls ih =>
    intro l hc hPS i acc fr od re hi ha hO hp
    have hl := hPS l List.mem_cons_self
    have hlen := oz_full_len h5 hl
    have hx : ∀ x, x ∈ l → x < 5 := fun x hx => oz_PS_lt (n := 5) hl h32 hx
    have hsz := oz_szB_240 (oz_W48 tX h5) h32 hl
    have hc' : (oz_next n l == some b && oz_chk n (b :: ls)) = true := hc
    rw [Bool.and_eq_true, beq_iff_eq] at hc'
    obtain ⟨hnx, hc2⟩ := hc'
    have hll : (b :: ls).length = ls.length + 1 := rfl
    have N : ∀ (a : Nat) (fr : Int32) (re : Nat → Int32), a ≤ 1000 → (∀ fr od re, post (nI (oz_fm P (oz_szB (oz_W tX (2 ^ n - 1))) (b :: ls) a)) (nI n, fr, tb, pr, od, re)) → wY_lowest_55 post (wY_lowest_14 post x1 x2 (ls.length + 2)) x1 x2 (nI a) (nI i) (nI n) fr tb pr od re := by
      intro a fr re ha h
      refine oy_next _ h5 h1 l od hlen hx hO (fun z => by rw [hnx] at z; cases z) (fun l' z od' hO' => ?_)
      rw [hnx] at z
      cases z
      exact nm_r (nI_1 i) (ih b hc2 (fun l' hl' => hPS l' (List.mem_cons_of_mem _ hl')) (i + 1) a fr od' re (by omega) ha hO' h)
    have h120 : ¬ (120 : Int32) ≤ nI i := nI_ge (b := 120) (by omega) (by decide)
    refine br_f h120 (br_f (by decide) (hP l od hl hO _ _ (fun hb => ?_) (fun hb => ?_)))
    · have e : oz_fm P (oz_szB (oz_W tX (2 ^ n - 1))) (l :: b :: ls) acc = oz_fm P (oz_szB (oz_W tX (2 ^ n - 1))) (b :: ls) (min acc (oz_szB (oz_W tX (2 ^ n - 1)) l)) := by
        show oz_fm P _ (b :: ls) (if P l = true then min acc _ else acc) = _
        rw [if_pos hb]
      rw [e] at hp
      refine oy_sO _ tX l fr re h5 hl hO hT (fun fr' re' => ?_)
      refine pk_le acc (oz_szB (oz_W tX (2 ^ n - 1)) l) (fun z => N acc fr' re' ha ?_) (fun z => N _ fr' re' (by omega) ?_)
      · rw [Nat.min_eq_left z] at hp; exact hp
      · rw [Nat.min_eq_right (by omega)] at hp; exact hp
    · have e : oz_fm P (oz_szB (oz_W tX (2 ^ n - 1))) (l :: b :: ls) acc = oz_fm P (oz_szB (oz_W tX (2 ^ n - 1))) (b :: ls) acc := by
        show oz_fm P _ (b :: ls) (if P l = true then min acc _ else acc) = _
        rw [if_neg (by rw [hb]; decide)]
      rw [e] at hp
      exact N acc fr re ha hp
theorem oz_pm_cons (h5 : n ≤ 5) : ∃ ls, oz_pm n (List.range n) = List.range n :: ls := by
  have h := oz_pmhd n (by omega)
  cases hq : oz_pm n (List.range n) with
  | nil => rw [hq] at h; cases h
  | cons a ls =>
    rw [hq] at h
    have e : a = List.range n := Option.some.inj h
    exact ⟨ls, by rw [e]⟩
theorem oz_OL_range (h5 : n ≤ 5) {od : Nat → Int32} (h : ∀ p, p < 5 → od p = nI p) : oz_OL od (List.range n) := by
  intro p hp
  rw [List.length_range] at hp
  rw [h p (by omega), List.getD_eq_getElem?_getD, List.getElem?_range hp]
  rfl
theorem oy_low (post : Int32 → SY → Prop) (x1 x2 : Int32) (P : List Nat → Bool) (tX : Nat → Int32) (fr : Int32) (od re : Nat → Int32) (h5 : n ≤ 5) (h1 : 1 ≤ n)
    (hT : ∀ f, f < 3 → ∀ a, a < 2 ^ n → bt (tX f) a = bt (tb f) a)
    (hP : ∀ l od, oz_PS (2 ^ n - 1) l → oz_OL od l → ∀ A B : Prop, (P l = true → A) → (P l = false → B) → ((x1 < 0 → A) ∧ (¬ x1 < 0 → (vp_in x2 5 ∧ ((od x2.toNatClampNeg = x1 → A) ∧ (¬ od x2.toNatClampNeg = x1 → B))))))
    (hp : ∀ fr od re, post (nI (oz_fm P (oz_szB (oz_W tX (2 ^ n - 1))) (oz_pm n (List.range n)) 1000)) (nI n, fr, tb, pr, od, re)) :
    wpY_lowest post (nI n, fr, tb, pr, od, re) x1 x2 := by
  obtain ⟨ls, e⟩ := oz_pm_cons h5
  have hc := oz_chkn n h1 h5
  have hlen := oz_pm120 n (by omega)
  have hm : ∀ l', l' ∈ oz_pm n (List.range n) → oz_PS (2 ^ n - 1) l' := fun l' hl' => oz_pm_PS.mp hl'
  rw [e] at hc hlen hm hp
  have hlen' : ls.length + 1 ≤ 120 := hlen
  unfold wpY_lowest
  dsimp only
  refine oy_st _ od (fun od' hod => ⟨ls.length + 2, ?_⟩)
  exact oy_lo14 post x1 x2 P tX h5 h1 hT hP ls (List.range n) hc hm 0 1000 fr od' re (by omega) (by decide) (oz_OL_range h5 hod) hp
theorem oy_gr10 (post : Int32 → SY → Prop) (tX : Nat → Int32) (h5 : n ≤ 5) (h1 : 1 ≤ n)
    (hT : ∀ f, f < 3 → ∀ a, a < 2 ^ n → bt (tX f) a = bt (tb f) a) :
    ∀ (ls : List (List Nat)) (l : List Nat), oz_chk n (l :: ls) = true → (∀ l', l' ∈ l :: ls → oz_PS (2 ^ n - 1) l') → ∀ (i acc : Nat) (fr : Int32) (od re : Nat → Int32), i + (ls.length + 1) ≤ 120 → acc ≤ 1000 → oz_OL od l →
      (∀ fr od re, post (nI (oz_fx (oz_szB (oz_W tX (2 ^ n - 1))) (l :: ls) acc)) (nI n, fr, tb, pr, od, re)) →
      wY_greatest_10 post (ls.length + 2) (nI acc) 1 (nI i) (nI n) fr tb pr od re := by
  have h32 := oz_full32 h5
  intro ls
  induction ls with
  | nil =>
    intro l hc hPS i acc fr od re hi ha hO hp
    have hl := hPS l List.mem_cons_self
    have hlen := oz_full_len h5 hl
    have hx : ∀ x, x ∈ l → x < 5 := fun x hx => oz_PS_lt (n := 5) hl h32 hx
    have hsz := oz_szB_240 (oz_W48 tX h5) h32 hl
    have hnx : oz_next n l = none := beq_iff_eq.mp hc
    have N : ∀ (a : Nat) (fr : Int32) (re : Nat → Int32), (∀ fr od re, post (nI a) (nI n, fr, tb, pr, od, re)) → wY_greatest_35 post (wY_greatest_10 post 1) (nI a) (nI i) (nI n) fr tb pr od re := by
      intro a fr re h
      refine oy_next _ h5 h1 l od hlen hx hO (fun _ => ?_) (fun l' z => by rw [hnx] at z; cases z)
      refine nm_r (nI_1 i) ?_
      exact br_c (fun _ => h _ _ _) (fun _ => br_t rfl (h _ _ _))
    have h120 : ¬ (120 : Int32) ≤ nI i := nI_ge (b := 120) (by omega) (by decide)
    refine br_f h120 (br_f (by decide) ?_)
    have e : oz_fx (oz_szB (oz_W tX (2 ^ n - 1))) [l] acc = max acc (oz_szB (oz_W tX (2 ^ n - 1)) l) := rfl
    rw [e] at hp
    refine oy_sO _ tX l fr re h5 hl hO hT (fun fr' re' => ?_)
    refine pk_le (oz_szB (oz_W tX (2 ^ n - 1)) l) acc (fun z => N acc fr' re' ?_) (fun z => N _ fr' re' ?_)
    · rw [Nat.max_eq_left z] at hp; exact hp
    · rw [Nat.max_eq_right (by omega)] at hp; exact hp
  | cons b ls ih =>
    intro l hc hPS i acc fr od re hi ha hO hp
    have hl := hPS l List.mem_cons_self
    have hlen := oz_full_len h5 hl
    have hx : ∀ x, x ∈ l → x < 5 := fun x hx => oz_PS_lt (n := 5) hl h32 hx
    have hsz := oz_szB_240 (oz_W48 tX h5) h32 hl
    have hc' : (oz_next n l == some b && oz_chk n (b :: ls)) = true := hc
    rw [Bool.and_eq_true, beq_iff_eq] at hc'
    obtain ⟨hnx, hc2⟩ := hc'
    have hll : (b :: ls).length = ls.length + 1 := rfl
    have N : ∀ (a : Nat) (fr : Int32) (re : Nat → Int32), a ≤ 1000 → (∀ fr od re, post (nI (oz_fx (oz_szB (oz_W tX (2 ^ n - 1))) (b :: ls) a)) (nI n, fr, tb, pr, od, re)) → wY_greatest_35 post (wY_greatest_10 post (ls.length + 2)) (nI a) (nI i) (nI n) fr tb pr od re := by
      intro a fr re ha h
      refine oy_next _ h5 h1 l od hlen hx hO (fun z => by rw [hnx] at z; cases z) (fun l' z od' hO' => ?_)
      rw [hnx] at z
      cases z
      exact nm_r (nI_1 i) (ih b hc2 (fun l' hl' => hPS l' (List.mem_cons_of_mem _ hl')) (i + 1) a fr od' re (by omega) ha hO' h)
    have h120 : ¬ (120 : Int32) ≤ nI i := nI_ge (b := 120) (by omega) (by decide)
    refine br_f h120 (br_f (by decide) ?_)
    have e : oz_fx (oz_szB (oz_W tX (2 ^ n - 1))) (l :: b :: ls) acc = oz_fx (oz_szB (oz_W tX (2 ^ n - 1))) (b :: ls) (max acc (oz_szB (oz_W tX (2 ^ n - 1)) l)) := rfl
    rw [e] at hp
    refine oy_sO _ tX l fr re h5 hl hO hT (fun fr' re' => ?_)
    refine pk_le (oz_szB (oz_W tX (2 ^ n - 1)) l) acc (fun z => N acc fr' re' ha ?_) (fun z => N _ fr' re' (by omega) ?_)
    · rw [Nat.max_eq_left z] at hp; exact hp
    · rw [Nat.max_eq_right (by omega)] at hp; exact hp
theorem oy_gr (post : Int32 → SY → Prop) (tX : Nat → Int32) (fr : Int32) (od re : Nat → Int32) (h5 : n ≤ 5) (h1 : 1 ≤ n)
    (hT : ∀ f, f < 3 → ∀ a, a < 2 ^ n → bt (tX f) a = bt (tb f) a)
    (hp : ∀ fr od re, post (nI (oz_fx (oz_szB (oz_W tX (2 ^ n - 1))) (oz_pm n (List.range n)) 0)) (nI n, fr, tb, pr, od, re)) :
    wpY_greatest post (nI n, fr, tb, pr, od, re) := by
  obtain ⟨ls, e⟩ := oz_pm_cons h5
  have hc := oz_chkn n h1 h5
  have hlen := oz_pm120 n (by omega)
  have hm : ∀ l', l' ∈ oz_pm n (List.range n) → oz_PS (2 ^ n - 1) l' := fun l' hl' => oz_pm_PS.mp hl'
  rw [e] at hc hlen hm hp
  have hlen' : ls.length + 1 ≤ 120 := hlen
  unfold wpY_greatest
  dsimp only
  refine oy_st _ od (fun od' hod => ⟨ls.length + 2, ?_⟩)
  exact oy_gr10 post tX h5 h1 hT ls (List.range n) hc hm 0 0 fr od' re (by omega) (by decide) (oz_OL_range h5 hod) hp
theorem oy_be26 (post : Int32 → SY → Prop) (tX : Nat → Int32) (pl m : Nat) (lz : List Nat) (h5 : n ≤ 5) (h1 : 1 ≤ n) (hpl : pl < n) (hm : m ≤ 240)
    (hT : ∀ f, f < 3 → ∀ a, a < 2 ^ n → bt (tX f) a = bt (tb f) a)
    (hp : ∀ fr od re, post (nI (lz.getD pl 0)) (nI n, fr, tb, pr, od, re)) :
    ∀ (ls : List (List Nat)) (l : List Nat), oz_chk n (l :: ls) = true → (∀ l', l' ∈ l :: ls → oz_PS (2 ^ n - 1) l') → ∀ (i : Nat) (fr : Int32) (od re : Nat → Int32), i + (ls.length + 1) ≤ 120 → oz_OL od l →
      (l :: ls).find? (fun l => oz_szB (oz_W tX (2 ^ n - 1)) l == m) = some lz →
      wY_best_26 post (nI pl) (nI m) (ls.length + 2) 1 (nI i) (nI n) fr tb pr od re := by
  have h32 := oz_full32 h5
  intro ls
  induction ls with
  | nil =>
    intro l hc hPS i fr od re hi hO hfi
    have hl := hPS l List.mem_cons_self
    have hlen := oz_full_len h5 hl
    have hsz := oz_szB_240 (oz_W48 tX h5) h32 hl
    have h120 : ¬ (120 : Int32) ≤ nI i := nI_ge (b := 120) (by omega) (by decide)
    have hel : l = lz ∧ oz_szB (oz_W tX (2 ^ n - 1)) l = m := by
      have h1 := List.mem_of_find?_eq_some hfi
      have h2 := List.find?_some hfi
      have h3 := List.mem_singleton.mp h1
      subst h3
      exact ⟨rfl, beq_iff_eq.mp h2⟩
    obtain ⟨rfl, he⟩ := hel
    refine br_f h120 (br_f (by decide) (oy_sO _ tX l fr re h5 hl hO hT (fun fr' re' => br_t ?_ ⟨vp_in_nI (by omega) (by decide), ?_⟩)))
    · rw [he]
    · rw [nI_clamp (n := pl) (by omega), hO pl (by omega)]
      exact hp _ _ _
  | cons b ls ih =>
    intro l hc hPS i fr od re hi hO hfi
    have hl := hPS l List.mem_cons_self
    have hlen := oz_full_len h5 hl
    have hx : ∀ x, x ∈ l → x < 5 := fun x hx => oz_PS_lt (n := 5) hl h32 hx
    have hsz := oz_szB_240 (oz_W48 tX h5) h32 hl
    have hc' : (oz_next n l == some b && oz_chk n (b :: ls)) = true := hc
    rw [Bool.and_eq_true, beq_iff_eq] at hc'
    obtain ⟨hnx, hc2⟩ := hc'
    have hll : (b :: ls).length = ls.length + 1 := rfl
    have h120 : ¬ (120 : Int32) ≤ nI i := nI_ge (b := 120) (by omega) (by decide)
    refine br_f h120 (br_f (by decide) (oy_sO _ tX l fr re h5 hl hO hT (fun fr' re' => ?_)))
    refine pk_eq (oz_szB (oz_W tX (2 ^ n - 1)) l) m (fun z => ⟨vp_in_nI (by omega) (by decide), ?_⟩) (fun z => ?_)
    · rw [List.find?_cons_of_pos (by rw [z]; exact beq_self_eq_true m)] at hfi
      have e := Option.some.inj hfi
      subst e
      rw [nI_clamp (n := pl) (by omega), hO pl (by omega)]
      exact hp _ _ _
    · rw [List.find?_cons_of_neg (by rw [beq_iff_eq]; exact z)] at hfi
      refine oy_next _ h5 h1 l od hlen hx hO (fun z => by rw [hnx] at z; cases z) (fun l' z od' hO' => ?_)
      rw [hnx] at z
      cases z
      exact nm_r (nI_1 i) (ih b hc2 (fun l' hl' => hPS l' (List.mem_cons_of_mem _ hl')) (i + 1) fr' od' re' (by omega) hO' hfi)
end
end
section
/-! the methods that are called, one side each; the constructors -/
theorem oz_nd_iff {l : List Nat} : l.Nodup ↔ ∀ i j, i < l.length → j < l.length → l.getD i 0 = l.getD j 0 → i = j := by
  unfold List.Nodup
  rw [List.pairwise_iff_getElem]
  constructor
  · intro h i j hi hj e
    rw [List.getD_eq_getElem?_getD, List.getD_eq_getElem?_getD, List.getElem?_eq_getElem hi, List.getElem?_eq_getElem hj] at e
    have e' : l[i] = l[j] := e
    rcases Nat.lt_trichotomy i j with z | z | z
    · exact absurd e' (h i j hi hj z)
    · exact z
    · exact absurd e'.symm (h j i hj hi z)
  · intro h i j hi hj hij e
    have := h i j hi hj (by
      rw [List.getD_eq_getElem?_getD, List.getD_eq_getElem?_getD, List.getElem?_eq_getElem hi, List.getElem?_eq_getElem hj]
      exact e)
    omega
theorem oz_mem_iff {l : List Nat} {x : Nat} : x ∈ l ↔ ∃ i, i < l.length ∧ l.getD i 0 = x := by
  constructor
  · intro h
    obtain ⟨i, hi, e⟩ := List.mem_iff_getElem.mp h
    refine ⟨i, hi, ?_⟩
    rw [List.getD_eq_getElem?_getD, List.getElem?_eq_getElem hi]
    exact e
  · rintro ⟨i, hi, e⟩
    rw [← e]
    exact oz_getD_mem hi
theorem oz_sw_getD {l : List Nat} {i j p : Nat} (hi : i < l.length) (hj : j < l.length) : (oz_sw l i j).getD p 0 = if p = j then l.getD i 0 else if p = i then l.getD j 0 else l.getD p 0 := by
  unfold oz_sw
  rw [oz_set_getD (by rw [List.length_set]; exact hj), oz_set_getD hi]
theorem oz_PS_sw {S : Nat} {l : List Nat} {i j : Nat} (h : oz_PS S l) (hi : i < l.length) (hj : j < l.length) : oz_PS S (oz_sw l i j) := by
  have hn := oz_nd_iff.mp h.1
  refine ⟨oz_nd_iff.mpr ?_, fun x => ?_⟩
  · intro a b ha hb e
    rw [oz_sw_len] at ha hb
    rw [oz_sw_getD hi hj, oz_sw_getD hi hj] at e
    by_cases a1 : a = j
    · rw [if_pos a1] at e
      by_cases b1 : b = j
      · omega
      · rw [if_neg b1] at e
        by_cases b2 : b = i
        · rw [if_pos b2] at e
          have := hn i j hi hj e; omega
        · rw [if_neg b2] at e
          have := hn i b hi hb e; omega
    · rw [if_neg a1] at e
      by_cases a2 : a = i
      · rw [if_pos a2] at e
        by_cases b1 : b = j
        · rw [if_pos b1] at e
          have := hn j i hj hi e; omega
        · rw [if_neg b1] at e
          by_cases b2 : b = i
          · omega
          · rw [if_neg b2] at e
            have := hn j b hj hb e; omega
      · rw [if_neg a2] at e
        by_cases b1 : b = j
        · rw [if_pos b1] at e
          have := hn a i ha hi e; omega
        · rw [if_neg b1] at e
          by_cases b2 : b = i
          · rw [if_pos b2] at e
            have := hn a j ha hj e; omega
          · rw [if_neg b2] at e
            exact hn a b ha hb e
  · rw [← h.2 x, oz_mem_iff, oz_mem_iff]
    constructor
    · rintro ⟨p, hp, e⟩
      rw [oz_sw_len] at hp
      rw [oz_sw_getD hi hj] at e
      by_cases p1 : p = j
      · rw [if_pos p1] at e; exact ⟨i, hi, e⟩
      · rw [if_neg p1] at e
        by_cases p2 : p = i
        · rw [if_pos p2] at e; exact ⟨j, hj, e⟩
        · rw [if_neg p2] at e; exact ⟨p, hp, e⟩
    · rintro ⟨p, hp, e⟩
      by_cases p1 : p = j
      · subst p1
        by_cases p2 : p = i
        · subst p2
          exact ⟨p, by rw [oz_sw_len]; exact hi, by rw [oz_sw_getD hi hj, if_pos rfl]; exact e⟩
        · exact ⟨i, by rw [oz_sw_len]; exact hi, by rw [oz_sw_getD hi hj, if_neg (fun z => p2 z.symm), if_pos rfl]; exact e⟩
      · by_cases p2 : p = i
        · subst p2
          exact ⟨j, by rw [oz_sw_len]; exact hj, by rw [oz_sw_getD hi hj, if_pos rfl]; exact e⟩
        · exact ⟨p, by rw [oz_sw_len]; exact hp, by rw [oz_sw_getD hi hj, if_neg p1, if_neg p2]; exact e⟩
theorem oz_PS_range (n : Nat) : oz_PS (2 ^ n - 1) (List.range n) := ⟨List.nodup_range, fun x => by rw [List.mem_range, oz_full_t]⟩
/-! ranges -/
section
variable {n : Nat} {ff fk fo fr : Int32} {tb od wo lb gb lf rs pr re : Nat → Int32}
theorem ox_in1 (post : Int32 → Prop) (p : Nat) (h5 : n ≤ 5) (hp : p < n) (h : post 1) : wpX_inRange post (nI n, ff, fk, fo, tb, od, wo, lb, gb, lf, rs) (nI p) :=
  br_f (nI_pos (by omega)) (br_f (nI_ge hp (by omega)) h)
theorem ox_in0 (post : Int32 → Prop) (x : Int32) (hx : x < 0 ∨ nI n ≤ x) (h : post 0) : wpX_inRange post (nI n, ff, fk, fo, tb, od, wo, lb, gb, lf, rs) x := by
  by_cases z : x < 0
  · exact br_t z h
  · exact br_f z (br_t (hx.resolve_left z) h)
theorem oy_out0 (post : Int32 → Prop) (p : Nat) (h5 : n ≤ 5) (hp : p < n) (h : post 0) : wpY_outside post (nI n, fr, tb, pr, od, re) (nI p) :=
  br_f (nI_pos (by omega)) (br_t (nI_lt hp (by omega)) h)
theorem oy_out1 (post : Int32 → Prop) (x : Int32) (hx : x < 0 ∨ nI n ≤ x) (h : post 1) : wpY_outside post (nI n, fr, tb, pr, od, re) x := by
  by_cases z : x < 0
  · exact br_t z h
  · exact br_f z (br_f (Int32.not_lt.mpr (hx.resolve_left z)) h)
theorem oy_bad1 (post : Int32 → Prop) (x : Int32) (hx : x < 0 ∨ 2 < x) (hp : post 1) : wpY_badFunction post x := by
  by_cases z : x < 0
  · exact br_t z hp
  · exact br_f z (br_f (Int32.not_le.mpr (hx.resolve_left z)) hp)
end
theorem oz_ix2 (x : Int32) : (x < 0 ∨ 2 < x) ∨ ∃ f : Nat, f < 3 ∧ x = nI f := by
  by_cases h : x < 0
  · exact Or.inl (Or.inl h)
  · obtain ⟨j, hj, rfl⟩ := nI_of h
    by_cases h2 : j < 3
    · exact Or.inr ⟨j, h2, rfl⟩
    · exact Or.inl (Or.inr (nI_lt (a := 2) (by omega) hj))
theorem oz_ixn (x : Int32) {n : Nat} (h5 : n ≤ 5) : (x < 0 ∨ nI n ≤ x) ∨ ∃ j : Nat, j < n ∧ x = nI j := by
  rcases pk_ix x (n := n) (by omega) with h | h | h
  · exact Or.inl (Or.inl h)
  · exact Or.inl (Or.inr h)
  · exact Or.inr h
theorem oz_ixp (x : Int32) {n : Nat} (h5 : n ≤ 5) : (x < 0 ∨ (¬ x ≤ nI (2 ^ n - 1) ∧ ¬ x < nI (2 ^ n))) ∨ ∃ j : Nat, j < 2 ^ n ∧ x = nI j := by
  have h32 := oz_pw32 h5
  have hpos : 0 < 2 ^ n := Nat.two_pow_pos n
  by_cases h : x < 0
  · exact Or.inl (Or.inl h)
  · obtain ⟨j, hj, rfl⟩ := nI_of h
    by_cases h2 : j < 2 ^ n
    · exact Or.inr ⟨j, h2, rfl⟩
    · exact Or.inl (Or.inr ⟨nI_ge (by omega) hj, nI_nlt (by omega) hj⟩)
/-! the constructors -/
def oz_od : Nat → Nat → Int32
  | 0 => fun _ => 0
  | p + 1 => upd (oz_od p) p (nI p)
theorem oz_od5 : ∀ p, p < 5 → oz_od 5 p = nI p := by decide +kernel
theorem ox_i96 (post : SX → Prop) (fn ff fk fo : Int32) (tb wo lb gb lf rs : Nat → Int32) (hp : post (fn, ff, fk, fo, tb, oz_od 5, wo, lb, gb, lf, rs)) :
    ∀ d p, p + d = 5 → wX_init_96 post fn ff fk fo (d + 1) (nI p) tb (oz_od p) wo lb gb lf rs := by
  intro d
  induction d with
  | zero =>
    intro p h
    have e : p = 5 := by omega
    subst e
    exact br_t (by decide) hp
  | succ d ih =>
    intro p h
    have h5 : ¬ (5 : Int32) ≤ nI p := nI_ge (b := 5) (by omega) (by decide)
    refine br_f h5 ⟨vp_in_nI (by omega) (by decide), nm_r (e' := oz_od (p + 1)) ?_ (nm_r (nI_1 p) (ih (p + 1) (by omega)))⟩
    rw [nI_clamp (n := p) (by omega)]
    rfl
theorem oy_i58 (post : SY → Prop) (fn fr : Int32) (tb yo re : Nat → Int32) (hp : post (fn, fr, tb, oz_od 5, yo, re)) :
    ∀ d p, p + d = 5 → wY_init_58 post fn fr (d + 1) (nI p) tb (oz_od p) yo re := by
  intro d
  induction d with
  | zero =>
    intro p h
    have e : p = 5 := by omega
    subst e
    exact br_t (by decide) hp
  | succ d ih =>
    intro p h
    have h5 : ¬ (5 : Int32) ≤ nI p := nI_ge (b := 5) (by omega) (by decide)
    refine br_f h5 ⟨vp_in_nI (by omega) (by decide), nm_r (e' := oz_od (p + 1)) ?_ (nm_r (nI_1 p) (ih (p + 1) (by omega)))⟩
    rw [nI_clamp (n := p) (by omega)]
    rfl
theorem oz_fullI : ∀ n, n < 6 → ((1 : Int32) <<< (nI n &&& 31)) - 1 = nI (2 ^ n - 1) := by decide +kernel
theorem ox_i24 (post : SX → Prop) (n : Nat) (h5 : n ≤ 5) (hp : post (nI n, nI (2 ^ n - 1), 0, 0, (fun _ => 0), oz_od 5, (fun _ => 0), (fun _ => 0), (fun _ => 0), (fun _ => 0), (fun _ => 0))) :
    wX_init_24 post (nI n) 0 0 0 0 :=
  nm_r (oz_fullI n (by omega)) ⟨6, ox_i96 post (nI n) (nI (2 ^ n - 1)) 0 0 _ _ _ _ _ _ hp 5 0 rfl⟩
/-! width, size, least, greatest, best, leastWith -/
section
variable {n : Nat} {tb od pr : Nat → Int32} {l : List Nat}
theorem ox_width (post : Int32 → SX → Prop) (p : Nat) (fk fo : Int32) (wo lb gb lf rs : Nat → Int32) (h5 : n ≤ 5) (hp : p < n) (h : fk = 0 ∨ (fk = 1 ∧ oz_Gd n tb wo lb gb lf)) (hl : oz_PS (2 ^ n - 1) l) (hO : oz_OL od l)
    (hpost : ∀ fo wo lb gb lf rs, oz_Gd n tb wo lb gb lf → post (nI (oz_W tb (2 ^ n - 1) (oz_mk (l.drop (p + 1))) (l.getD p 0))) (nI n, nI (2 ^ n - 1), 1, fo, tb, od, wo, lb, gb, lf, rs)) :
    wpX_width post (nI n, nI (2 ^ n - 1), fk, fo, tb, od, wo, lb, gb, lf, rs) (nI p) := by
  unfold wpX_width
  dsimp only
  refine ox_in1 _ p h5 hp (br_f (by decide) ?_)
  refine ox_work _ n fo wo lb gb lf rs h5 h (fun fo wo lb gb lf rs hG => ?_)
  exact ox_wA _ p h5 hp hG hl hO (hpost fo wo lb gb lf rs hG)
theorem oy_width (post : Int32 → SY → Prop) (tX : Nat → Int32) (p : Nat) (fr : Int32) (yo re : Nat → Int32) (h5 : n ≤ 5) (hp : p < n) (hl : oz_PS (2 ^ n - 1) l) (hO : oz_OL pr l)
    (hT : ∀ f, f < 3 → ∀ a, a < 2 ^ n → bt (tX f) a = bt (tb f) a)
    (hpost : ∀ fr yo re, post (nI (oz_W tX (2 ^ n - 1) (oz_mk (l.drop (p + 1))) (l.getD p 0))) (nI n, fr, tb, pr, yo, re)) :
    wpY_width post (nI n, fr, tb, pr, yo, re) (nI p) := by
  unfold wpY_width
  dsimp only
  have hlen := oz_full_len h5 hl
  refine oy_out0 _ p h5 hp (br_t rfl ?_)
  refine oy_lP _ yo (fun yo' hy => ?_)
  refine oy_wAX _ tX l p fr re h5 hp hl (fun q hq => ?_) hT (fun fr' re' => hpost fr' yo' re')
  exact (hy q (by omega)).trans (hO q hq)
theorem oy_size (post : Int32 → SY → Prop) (tX : Nat → Int32) (fr : Int32) (yo re : Nat → Int32) (h5 : n ≤ 5) (hl : oz_PS (2 ^ n - 1) l) (hO : oz_OL pr l)
    (hT : ∀ f, f < 3 → ∀ a, a < 2 ^ n → bt (tX f) a = bt (tb f) a)
    (hpost : ∀ fr yo re, post (nI (oz_szB (oz_W tX (2 ^ n - 1)) l)) (nI n, fr, tb, pr, yo, re)) :
    wpY_size post (nI n, fr, tb, pr, yo, re) := by
  unfold wpY_size
  dsimp only
  have hlen := oz_full_len h5 hl
  refine oy_lP _ yo (fun yo' hy => ?_)
  refine oy_sO _ tX l fr re h5 hl (fun q hq => ?_) hT (fun fr' re' => hpost fr' yo' re')
  exact (hy q (by omega)).trans (hO q hq)
theorem oz_low_all (tX : Nat → Int32) {m : Nat} (h5 : n ≤ 5) (hm : oz_min (oz_PS (2 ^ n - 1)) (oz_szB (oz_W tX (2 ^ n - 1))) m) : oz_fm (fun _ => true) (oz_szB (oz_W tX (2 ^ n - 1))) (oz_pm n (List.range n)) 1000 = m :=
  oz_fm_min _ hm (oz_b240 (oz_W48 tX h5) (oz_full32 h5) hm)
theorem oy_lowAll (post : Int32 → SY → Prop) (tX : Nat → Int32) (m : Nat) (fr : Int32) (od re : Nat → Int32) (h5 : n ≤ 5) (h1 : 1 ≤ n)
    (hT : ∀ f, f < 3 → ∀ a, a < 2 ^ n → bt (tX f) a = bt (tb f) a) (hm : oz_min (oz_PS (2 ^ n - 1)) (oz_szB (oz_W tX (2 ^ n - 1))) m)
    (hp : ∀ fr od re, post (nI m) (nI n, fr, tb, pr, od, re)) : wpY_lowest post (nI n, fr, tb, pr, od, re) (-1) 0 := by
  refine oy_low post (-1) 0 (fun _ => true) tX fr od re h5 h1 hT (fun l od _ _ A B hA hB => br_t (by decide) (hA rfl)) ?_
  rw [oz_low_all tX h5 hm]
  exact hp
theorem oz_best_ex (h5 : n ≤ 5) {wo lb gb lf : Nat → Int32} (hG : oz_Gd n tb wo lb gb lf) : ∃ lz, (oz_pm n (List.range n)).find? (fun l => oz_szB (oz_W tb (2 ^ n - 1)) l == oz_g lb (2 ^ n - 1)) = some lz ∧ oz_PS (2 ^ n - 1) lz ∧ oz_GB (oz_W tb (2 ^ n - 1)) (oz_g lb) lz := by
  have hpos : 0 < 2 ^ n := Nat.two_pow_pos n
  have h32 := oz_full32 h5
  obtain ⟨_, hm, _⟩ := oz_g_t h5 hG (S := 2 ^ n - 1) (by omega)
  cases hf : (oz_pm n (List.range n)).find? (fun l => oz_szB (oz_W tb (2 ^ n - 1)) l == oz_g lb (2 ^ n - 1)) with
  | none =>
    rw [List.find?_eq_none] at hf
    obtain ⟨_, l, hl, e⟩ := hm
    exact absurd (beq_iff_eq.mpr e.symm) (hf l (oz_pm_PS.mpr hl))
  | some lz =>
    have := oz_first (oz_W tb (2 ^ n - 1)) (oz_g lb) (2 ^ n) (fun S hS => (oz_g_t h5 hG hS).2.1) n (List.range n) (2 ^ n - 1) (by omega) h32 (oz_PS_range n) List.length_range List.pairwise_lt_range lz hf
    exact ⟨lz, rfl, this⟩
theorem oy_best (post : Int32 → SY → Prop) (tX : Nat → Int32) (pl m : Nat) (lz : List Nat) (fr : Int32) (yo re : Nat → Int32) (h5 : n ≤ 5) (h1 : 1 ≤ n) (hpl : pl < n)
    (hT : ∀ f, f < 3 → ∀ a, a < 2 ^ n → bt (tX f) a = bt (tb f) a) (hm : oz_min (oz_PS (2 ^ n - 1)) (oz_szB (oz_W tX (2 ^ n - 1))) m)
    (hz : (oz_pm n (List.range n)).find? (fun l => oz_szB (oz_W tX (2 ^ n - 1)) l == m) = some lz)
    (hp : ∀ fr yo re, post (nI (lz.getD pl 0)) (nI n, fr, tb, pr, yo, re)) : wpY_best post (nI n, fr, tb, pr, yo, re) (nI pl) := by
  obtain ⟨ls, e⟩ := oz_pm_cons h5
  have hc := oz_chkn n h1 h5
  have hlen := oz_pm120 n (by omega)
  have hmem : ∀ l', l' ∈ oz_pm n (List.range n) → oz_PS (2 ^ n - 1) l' := fun l' hl' => oz_pm_PS.mp hl'
  rw [e] at hc hlen hmem hz
  have hlen' : ls.length + 1 ≤ 120 := hlen
  have hm240 := oz_b240 (oz_W48 tX h5) (oz_full32 h5) hm
  unfold wpY_best
  dsimp only
  refine oy_out0 _ pl h5 hpl (br_t rfl ?_)
  refine oy_lowAll _ tX m fr yo re h5 h1 hT hm (fun fr' yo' re' => ?_)
  refine oy_st _ yo' (fun yo2 hod => ⟨ls.length + 2, ?_⟩)
  exact oy_be26 post tX pl m lz h5 h1 hpl hm240 hT hp ls (List.range n) hc hmem 0 fr' yo2 re' (by omega) (oz_OL_range h5 hod) hz
/-- the least with a variable on a place, both sides -/
def oz_wi (tb lf lb : Nat → Int32) (n var b : Nat) : Nat := (lf (oz_er (oz_co (2 ^ n - 1) b) var)).toNatClampNeg + oz_W tb (2 ^ n - 1) b var + (lb b).toNatClampNeg
def oz_wr (tb lf lb : Nat → Int32) (n var pl : Nat) : Nat := oz_mn (fun b => !b.testBit var && decide (oz_on b 5 = n - 1 - pl)) (oz_wi tb lf lb n var) (2 ^ n)
theorem oz_wi_t (h5 : n ≤ 5) {wo lb gb lf : Nat → Int32} (hG : oz_Gd n tb wo lb gb lf) {var b : Nat} (hvar : var < n) (hb : b < 2 ^ n) (hv : b.testBit var = false) :
    (lf (oz_er (oz_co (2 ^ n - 1) b) var) + wo (5 * b + var)) + lb b = nI (oz_wi tb lf lb n var b) ∧ oz_wi tb lf lb n var b < 1000 ∧
    oz_min (oz_PS (oz_er (oz_co (2 ^ n - 1) b) var)) (oz_szA (oz_W tb (2 ^ n - 1)) (2 ^ n - 1)) (lf (oz_er (oz_co (2 ^ n - 1) b) var)).toNatClampNeg ∧ oz_min (oz_PS b) (oz_szB (oz_W tb (2 ^ n - 1))) (lb b).toNatClampNeg := by
  have h32 := oz_pw32 h5
  have hpos : 0 < 2 ^ n := Nat.two_pow_pos n
  have hW := oz_W48 tb h5
  have hco := oz_co_le (2 ^ n - 1) b
  have her := oz_er_le (oz_co (2 ^ n - 1) b) var
  obtain ⟨a1, a2, a3⟩ := oz_LI_cl (P := fun S => oz_min (oz_PS S) (oz_szA (oz_W tb (2 ^ n - 1)) (2 ^ n - 1))) (T := oz_er (oz_co (2 ^ n - 1) b) var) hG.2.2.2 (by omega) (fun m hm => oz_a240 hW (by omega) hm)
  obtain ⟨b1, b2, b3⟩ := oz_LI_cl (P := fun S => oz_min (oz_PS S) (oz_szB (oz_W tb (2 ^ n - 1)))) hG.2.1 hb (fun m hm => oz_b240 hW (by omega) hm)
  have hw := hG.1 b hb var hvar hv
  have hwb := hW b var (by omega)
  refine ⟨?_, ?_, a2, b2⟩
  · unfold oz_wi
    rw [← nI_add, ← nI_add, ← a1, ← b1, hw]
  · unfold oz_wi
    omega
theorem oz_wr_t (h5 : n ≤ 5) {wo lb gb lf : Nat → Int32} (hG : oz_Gd n tb wo lb gb lf) {var pl : Nat} (hvar : var < n) (hpl : pl < n) :
    oz_fm (fun l => decide (l.getD pl 0 = var)) (oz_szB (oz_W tb (2 ^ n - 1))) (oz_pm n (List.range n)) 1000 = oz_wr tb lf lb n var pl := by
  refine oz_minD_u (oz_fm_minD (n := n) (fun l => decide (l.getD pl 0 = var)) (oz_szB (oz_W tb (2 ^ n - 1)))) ?_
  have h := oz_with (oz_W tb (2 ^ n - 1)) n pl var h5 hpl hvar (oz_wi tb lf lb n var) (fun b hb hv => by
    obtain ⟨_, _, k3, k4⟩ := oz_wi_t h5 hG hvar hb hv
    exact ⟨_, _, rfl, k3, k4⟩)
  simp only [decide_eq_true_iff]
  exact h
theorem oy_lW (post : Int32 → SY → Prop) (tX : Nat → Int32) (var pl : Nat) (fr : Int32) (yo re : Nat → Int32) (h5 : n ≤ 5) (h1 : 1 ≤ n) (hvar : var < n) (hpl : pl < n)
    (hT : ∀ f, f < 3 → ∀ a, a < 2 ^ n → bt (tX f) a = bt (tb f) a)
    (hp : ∀ fr yo re, post (nI (oz_fm (fun l => decide (l.getD pl 0 = var)) (oz_szB (oz_W tX (2 ^ n - 1))) (oz_pm n (List.range n)) 1000)) (nI n, fr, tb, pr, yo, re)) :
    wpY_leastWith post (nI n, fr, tb, pr, yo, re) (nI var) (nI pl) := by
  unfold wpY_leastWith
  dsimp only
  refine oy_out0 _ var h5 hvar (br_t rfl (oy_out0 _ pl h5 hpl (br_t rfl ?_)))
  refine oy_low _ (nI var) (nI pl) (fun l => decide (l.getD pl 0 = var)) tX fr yo re h5 h1 hT (fun l od hl hO A B hA hB => ?_) hp
  have hlen := oz_full_len h5 hl
  have hx : l.getD pl 0 < 5 := oz_PS_lt (n := 5) hl (oz_full32 h5) (oz_getD_mem (by omega))
  refine br_f (nI_pos (by omega)) ⟨vp_in_nI (by omega) (by decide), ?_⟩
  rw [nI_clamp (n := pl) (by omega), hO pl (by omega)]
  exact pk_eq _ var (fun e => hA (decide_eq_true e)) (fun e => hB (decide_eq_false e))
end
end
section
/-! what is owed -/
/-- both hold the same number of variables and the same order; the tables agree on the bits that are read; X's sums are right where it calls them known -/
def i_Rel (k : Nat) (u : SX) (v : SY) : Prop :=
  ∃ (n : Nat) (l : List Nat) (fk fo fr : Int32) (tX tY od wo lb gb lf rs yo re : Nat → Int32),
    u = (nI n, nI (2 ^ n - 1), fk, fo, tX, od, wo, lb, gb, lf, rs) ∧ v = (nI n, fr, tY, od, yo, re) ∧ 1 ≤ n ∧ n ≤ 5 ∧
    (∀ f, f < 3 → ∀ a, a < 2 ^ n → bt (tX f) a = bt (tY f) a) ∧ oz_PS (2 ^ n - 1) l ∧ oz_OL od l ∧ (fk = 0 ∨ (fk = 1 ∧ oz_Gd n tX wo lb gb lf))
theorem i_up {k : Nat} {u : SX} {v : SY} (h : i_Rel k u v) : i_Rel (k + 3) u v := h
theorem oi_new (n : Nat) (h1 : 1 ≤ n) (h5 : n ≤ 5) : i_Rel 1 (nI n, nI (2 ^ n - 1), 0, 0, (fun _ => 0), oz_od 5, (fun _ => 0), (fun _ => 0), (fun _ => 0), (fun _ => 0), (fun _ => 0)) (nI n, 0, (fun _ => 0), oz_od 5, (fun _ => 0), (fun _ => 0)) :=
  ⟨n, List.range n, _, _, _, _, _, _, _, _, _, _, _, _, _, rfl, rfl, h1, h5, fun _ _ _ _ => rfl, oz_PS_range n, oz_OL_range h5 oz_od5, Or.inl rfl⟩
theorem i_vc0 (k0 : Int32) : wpX_init (fun u => wpY_init (fun v => i_Rel 1 u v) k0) k0 := by
  refine br_c (fun h => br_c (fun h' => ?_) (fun h' => ?_)) (fun h => ?_)
  · have hn : ¬ k0 < 0 := Int32.not_lt.mpr (Int32.le_trans (by decide) h)
    obtain ⟨j, hj, rfl⟩ := nI_of2 (n := 5) (M := 5) (by decide) hn h'
    have hj1 : 1 ≤ j := (nI_leI (a := 1) (by decide) (by omega)).mp h
    exact ox_i24 _ j hj (br_t h (br_t h' ⟨6, oy_i58 _ _ _ _ _ _ (oi_new j hj1 hj) 5 0 rfl⟩))
  · exact ox_i24 _ 5 (by decide) (br_t h (br_f h' ⟨6, oy_i58 _ _ _ _ _ _ (oi_new 5 (by decide) (by decide)) 5 0 rfl⟩))
  · exact ox_i24 _ 1 (by decide) (br_f h ⟨6, oy_i58 _ _ _ _ _ _ (oi_new 1 (by decide) (by decide)) 5 0 rfl⟩)
theorem oi_mask : ∀ n, n < 5 → ∀ a, a < 2 ^ n → bt (((1 : Int32) <<< (((1 : Int32) <<< (nI n &&& 31)) &&& 31)) - 1) a = true := by decide +kernel
theorem oi_upd {tX tY : Nat → Int32} {n f : Nat} {x y : Int32} (hT : ∀ f, f < 3 → ∀ a, a < 2 ^ n → bt (tX f) a = bt (tY f) a) (h : ∀ a, a < 2 ^ n → bt x a = bt y a) :
    ∀ g, g < 3 → ∀ a, a < 2 ^ n → bt (upd tX f x g) a = bt (upd tY f y g) a := by
  intro g hg a ha
  by_cases e : g = f
  · subst e; rw [pk_us, pk_us]; exact h a ha
  · rw [pk_un e, pk_un e]; exact hT g hg a ha
theorem i_vc_load {k : Nat} {u : SX} {v : SY} (I : i_Rel k u v) (hk : k + 3 ≤ 1537) (v1 : Int32) (v2 : Int32) : wpX_load (fun r u' => wpY_load (fun r' v' => r' = r ∧ i_Rel (k + 3) u' v') v v1 v2) u v1 v2 := by
  obtain ⟨n, l, fk, fo, fr, tX, tY, od, wo, lb, gb, lf, rs, yo, re, rfl, rfl, h1, h5, hT, hl, hO, hG⟩ := I
  rcases oz_ix2 v1 with hx | ⟨f, hf, rfl⟩
  · have hY : wpY_load (fun r' v' => r' = -1 ∧ i_Rel (k + 3) (nI n, nI (2 ^ n - 1), fk, fo, tX, od, wo, lb, gb, lf, rs) v') (nI n, fr, tY, od, yo, re) v1 v2 := by
      unfold wpY_load
      dsimp only
      exact oy_bad1 _ v1 hx (br_f (by decide) ⟨rfl, n, l, _, _, _, _, _, _, _, _, _, _, _, _, _, rfl, rfl, h1, h5, hT, hl, hO, hG⟩)
    by_cases z : v1 < 0
    · exact br_t z hY
    · exact br_f z (br_f (Int32.not_le.mpr (hx.resolve_left z)) hY)
  · have hY : ∀ x : Int32, (∀ a, a < 2 ^ n → bt x a = bt v2 a) → wpY_load (fun r' v' => r' = 0 ∧ i_Rel (k + 3) (nI n, nI (2 ^ n - 1), 0, fo, upd tX f x, od, wo, lb, gb, lf, rs) v') (nI n, fr, tY, od, yo, re) (nI f) v2 := by
      intro x hx
      unfold wpY_load
      dsimp only
      refine oy_bad0 _ f hf (br_t rfl ⟨vp_in_nI hf (by decide), ?_⟩)
      rw [nI_clamp (n := f) (by omega)]
      exact nm_e ⟨rfl, n, l, _, _, _, _, _, _, _, _, _, _, _, _, _, rfl, rfl, h1, h5, oi_upd hT hx, hl, hO, Or.inl rfl⟩
    refine br_f (nI_pos (by omega)) (br_t (nI_le (b := 2) (by omega) (by decide)) ?_)
    rw [nI_clamp (n := f) (by omega)]
    refine pk_eq n 5 (fun e => ⟨vp_in_nI hf (by decide), nm_e (hY v2 (fun _ _ => rfl))⟩) (fun e => ⟨vp_in_nI hf (by decide), nm_e (hY _ (fun a ha => ?_))⟩)
    rw [b_and, oi_mask n (by omega) a ha, Bool.and_true]
theorem i_vc_flip {k : Nat} {u : SX} {v : SY} (I : i_Rel k u v) (hk : k + 3 ≤ 1537) (v1 : Int32) (v2 : Int32) : wpX_flip (fun r u' => wpY_flip (fun r' v' => r' = r ∧ i_Rel (k + 3) u' v') v v1 v2) u v1 v2 := by
  obtain ⟨n, l, fk, fo, fr, tX, tY, od, wo, lb, gb, lf, rs, yo, re, rfl, rfl, h1, h5, hT, hl, hO, hG⟩ := I
  have h32 := oz_pw32 h5
  have hpos : 0 < 2 ^ n := Nat.two_pow_pos n
  have R : i_Rel (k + 3) (nI n, nI (2 ^ n - 1), fk, fo, tX, od, wo, lb, gb, lf, rs) (nI n, fr, tY, od, yo, re) := ⟨n, l, _, _, _, _, _, _, _, _, _, _, _, _, _, rfl, rfl, h1, h5, hT, hl, hO, hG⟩
  rcases oz_ix2 v1 with hx | ⟨f, hf, rfl⟩
  · have hY : wpY_flip (fun r' v' => r' = -1 ∧ i_Rel (k + 3) (nI n, nI (2 ^ n - 1), fk, fo, tX, od, wo, lb, gb, lf, rs) v') (nI n, fr, tY, od, yo, re) v1 v2 := by
      unfold wpY_flip
      dsimp only
      exact oy_bad1 _ v1 hx (br_f (by decide) ⟨rfl, R⟩)
    by_cases z : v1 < 0
    · exact br_t z hY
    · exact br_f z (br_t (hx.resolve_left z) hY)
  · have hf0 : ¬ nI f < 0 := nI_pos (by omega)
    have hf2 : ¬ (2 : Int32) < nI f := nI_nlt (b := f) (a := 2) (by omega) (by decide)
    rcases oz_ixp v2 h5 with hx | ⟨a, ha, rfl⟩
    · have hY : wpY_flip (fun r' v' => r' = -1 ∧ i_Rel (k + 3) (nI n, nI (2 ^ n - 1), fk, fo, tX, od, wo, lb, gb, lf, rs) v') (nI n, fr, tY, od, yo, re) (nI f) v2 := by
        unfold wpY_flip
        dsimp only
        refine oy_bad0 _ f hf (br_t rfl ?_)
        by_cases z : v2 < 0
        · exact br_t z ⟨rfl, R⟩
        · refine br_f z (br_f ?_ ⟨rfl, R⟩)
          rw [oz_pw n (by omega)]
          exact (hx.resolve_left z).2
      refine br_f hf0 (br_f hf2 ?_)
      by_cases z : v2 < 0
      · exact br_t z hY
      · exact br_f z (br_f (hx.resolve_left z).1 hY)
    · have hT' : ∀ b, b < 2 ^ n → bt (tX f ^^^ ((1 : Int32) <<< (nI a &&& 31))) b = bt (tY f ^^^ ((1 : Int32) <<< (nI a &&& 31))) b := fun b hb => by
        rw [b_xor, b_xor, hT f hf b hb]
      have hbit := hT' a ha
      have hY : wpY_flip (fun r' v' => r' = oz_bi (bt (tX f ^^^ ((1 : Int32) <<< (nI a &&& 31))) a) ∧ i_Rel (k + 3) (nI n, nI (2 ^ n - 1), 0, fo, upd tX f (tX f ^^^ ((1 : Int32) <<< (nI a &&& 31))), od, wo, lb, gb, lf, rs) v') (nI n, fr, tY, od, yo, re) (nI f) (nI a) := by
        unfold wpY_flip
        dsimp only
        refine oy_bad0 _ f hf (br_t rfl (br_f (nI_pos (by omega)) (br_t ?_ ⟨vp_in_nI hf (by decide), vp_in_nI hf (by decide), ?_⟩)))
        · rw [oz_pw n (by omega)]
          exact nI_lt ha (by omega)
        · rw [nI_clamp (n := f) (by omega)]
          refine nm_e (oy_val _ f a h5 hf ha ⟨?_, ?_⟩)
          · rw [pk_us, hbit]
          · exact ⟨n, l, _, _, _, _, _, _, _, _, _, _, _, _, _, rfl, rfl, h1, h5, oi_upd hT hT', hl, hO, Or.inl rfl⟩
      refine br_f hf0 (br_f hf2 (br_f (nI_pos (by omega)) (br_t (nI_le (by omega) (by omega)) ⟨vp_in_nI hf (by decide), vp_in_nI hf (by decide), ?_⟩)))
      rw [nI_clamp (n := f) (by omega)]
      refine nm_e ⟨vp_in_nI hf (by decide), ?_⟩
      rw [pk_us, oz_valX _ (by omega)]
      exact hY
theorem i_vc_value {k : Nat} {u : SX} {v : SY} (I : i_Rel k u v) (hk : k + 3 ≤ 1537) (v1 : Int32) (v2 : Int32) : wpX_value (fun r => wpY_value (fun r' => r' = r ∧ i_Rel (k + 3) u v) v v1 v2) u v1 v2 := by
  obtain ⟨n, l, fk, fo, fr, tX, tY, od, wo, lb, gb, lf, rs, yo, re, rfl, rfl, h1, h5, hT, hl, hO, hG⟩ := I
  have h32 := oz_pw32 h5
  have hpos : 0 < 2 ^ n := Nat.two_pow_pos n
  have R : i_Rel (k + 3) (nI n, nI (2 ^ n - 1), fk, fo, tX, od, wo, lb, gb, lf, rs) (nI n, fr, tY, od, yo, re) := ⟨n, l, _, _, _, _, _, _, _, _, _, _, _, _, _, rfl, rfl, h1, h5, hT, hl, hO, hG⟩
  rcases oz_ix2 v1 with hx | ⟨f, hf, rfl⟩
  · have hY : wpY_value (fun r' => r' = -1 ∧ i_Rel (k + 3) (nI n, nI (2 ^ n - 1), fk, fo, tX, od, wo, lb, gb, lf, rs) (nI n, fr, tY, od, yo, re)) (nI n, fr, tY, od, yo, re) v1 v2 := by
      unfold wpY_value
      dsimp only
      exact oy_bad1 _ v1 hx (br_f (by decide) ⟨rfl, R⟩)
    by_cases z : v1 < 0
    · exact br_t z hY
    · exact br_f z (br_t (hx.resolve_left z) hY)
  · have hf0 : ¬ nI f < 0 := nI_pos (by omega)
    have hf2 : ¬ (2 : Int32) < nI f := nI_nlt (b := f) (a := 2) (by omega) (by decide)
    rcases oz_ixp v2 h5 with hx | ⟨a, ha, rfl⟩
    · have hY : wpY_value (fun r' => r' = -1 ∧ i_Rel (k + 3) (nI n, nI (2 ^ n - 1), fk, fo, tX, od, wo, lb, gb, lf, rs) (nI n, fr, tY, od, yo, re)) (nI n, fr, tY, od, yo, re) (nI f) v2 := by
        unfold wpY_value
        dsimp only
        refine oy_bad0 _ f hf (br_t rfl ?_)
        by_cases z : v2 < 0
        · exact br_t z ⟨rfl, R⟩
        · refine br_f z (br_f ?_ ⟨rfl, R⟩)
          rw [oz_pw n (by omega)]
          exact (hx.resolve_left z).2
      refine br_f hf0 (br_f hf2 ?_)
      by_cases z : v2 < 0
      · exact br_t z hY
      · exact br_f z (br_f (hx.resolve_left z).1 hY)
    · refine br_f hf0 (br_f hf2 (br_f (nI_pos (by omega)) (br_t (nI_le (by omega) (by omega)) ⟨vp_in_nI hf (by decide), ?_⟩)))
      rw [nI_clamp (n := f) (by omega), oz_valX _ (by omega)]
      exact oy_val _ f a h5 hf ha ⟨by rw [hT f hf a ha], R⟩
theorem i_vc_swap {k : Nat} {u : SX} {v : SY} (I : i_Rel k u v) (hk : k + 3 ≤ 1537) (v1 : Int32) (v2 : Int32) : wpX_swap (fun r u' => wpY_swap (fun r' v' => r' = r ∧ i_Rel (k + 3) u' v') v v1 v2) u v1 v2 := by
  obtain ⟨n, l, fk, fo, fr, tX, tY, od, wo, lb, gb, lf, rs, yo, re, rfl, rfl, h1, h5, hT, hl, hO, hG⟩ := I
  have R : i_Rel (k + 3) (nI n, nI (2 ^ n - 1), fk, fo, tX, od, wo, lb, gb, lf, rs) (nI n, fr, tY, od, yo, re) := ⟨n, l, _, _, _, _, _, _, _, _, _, _, _, _, _, rfl, rfl, h1, h5, hT, hl, hO, hG⟩
  have hlen := oz_full_len h5 hl
  unfold wpX_swap wpY_swap
  dsimp only
  rcases oz_ixn v1 h5 with hx | ⟨p, hp, rfl⟩
  · exact ox_in0 _ v1 hx (br_t rfl (oy_out1 _ v1 hx (br_f (by decide) ⟨rfl, R⟩)))
  · refine ox_in1 _ p h5 hp (br_f (by decide) ?_)
    rcases oz_ixn v2 h5 with hx | ⟨q, hq, rfl⟩
    · exact ox_in0 _ v2 hx (br_t rfl (oy_out0 _ p h5 hp (br_t rfl (oy_out1 _ v2 hx (br_f (by decide) ⟨rfl, R⟩)))))
    · refine ox_in1 _ q h5 hq (br_f (by decide) ?_)
      rw [nI_clamp (n := p) (by omega), nI_clamp (n := q) (by omega)]
      refine ⟨vp_in_nI (by omega) (by decide), nm_e ⟨vp_in_nI (by omega) (by decide), vp_in_nI (by omega) (by decide), nm_e ⟨vp_in_nI (by omega) (by decide), nm_e ?_⟩⟩⟩
      refine oy_out0 _ p h5 hp (br_t rfl (oy_out0 _ q h5 hq (br_t rfl ?_)))
      refine ⟨vp_in_nI (by omega) (by decide), nm_e ⟨vp_in_nI (by omega) (by decide), vp_in_nI (by omega) (by decide), nm_e ⟨vp_in_nI (by omega) (by decide), nm_e ⟨rfl, ?_⟩⟩⟩⟩
      exact ⟨n, oz_sw l p q, _, _, _, _, _, _, _, _, _, _, _, _, _, rfl, rfl, h1, h5, hT, oz_PS_sw hl (by omega) (by omega), oz_OL_sw hO (by omega) (by omega), hG⟩
theorem i_vc_at {k : Nat} {u : SX} {v : SY} (I : i_Rel k u v) (hk : k + 3 ≤ 1537) (v1 : Int32) : wpX_at (fun r => wpY_at (fun r' => r' = r ∧ i_Rel (k + 3) u v) v v1) u v1 := by
  obtain ⟨n, l, fk, fo, fr, tX, tY, od, wo, lb, gb, lf, rs, yo, re, rfl, rfl, h1, h5, hT, hl, hO, hG⟩ := I
  have R : i_Rel (k + 3) (nI n, nI (2 ^ n - 1), fk, fo, tX, od, wo, lb, gb, lf, rs) (nI n, fr, tY, od, yo, re) := ⟨n, l, _, _, _, _, _, _, _, _, _, _, _, _, _, rfl, rfl, h1, h5, hT, hl, hO, hG⟩
  unfold wpX_at wpY_at
  dsimp only
  rcases oz_ixn v1 h5 with hx | ⟨p, hp, rfl⟩
  · exact ox_in0 _ v1 hx (br_t rfl (oy_out1 _ v1 hx (br_f (by decide) ⟨rfl, R⟩)))
  · exact ox_in1 _ p h5 hp (br_f (by decide) ⟨vp_in_nI (by omega) (by decide), oy_out0 _ p h5 hp (br_t rfl ⟨vp_in_nI (by omega) (by decide), rfl, R⟩)⟩)
theorem i_vc_width {k : Nat} {u : SX} {v : SY} (I : i_Rel k u v) (hk : k + 3 ≤ 1537) (v1 : Int32) : wpX_width (fun r u' => wpY_width (fun r' v' => r' = r ∧ i_Rel (k + 3) u' v') v v1) u v1 := by
  obtain ⟨n, l, fk, fo, fr, tX, tY, od, wo, lb, gb, lf, rs, yo, re, rfl, rfl, h1, h5, hT, hl, hO, hG⟩ := I
  have R : i_Rel (k + 3) (nI n, nI (2 ^ n - 1), fk, fo, tX, od, wo, lb, gb, lf, rs) (nI n, fr, tY, od, yo, re) := ⟨n, l, _, _, _, _, _, _, _, _, _, _, _, _, _, rfl, rfl, h1, h5, hT, hl, hO, hG⟩
  rcases oz_ixn v1 h5 with hx | ⟨p, hp, rfl⟩
  · unfold wpX_width wpY_width
    dsimp only
    exact ox_in0 _ v1 hx (br_t rfl (oy_out1 _ v1 hx (br_f (by decide) ⟨rfl, R⟩)))
  · refine ox_width _ p fk fo wo lb gb lf rs h5 hp hG hl hO (fun fo wo lb gb lf rs hG' => ?_)
    refine oy_width _ tX p fr yo re h5 hp hl hO hT (fun fr yo re => ⟨rfl, ?_⟩)
    exact ⟨n, l, _, _, _, _, _, _, _, _, _, _, _, _, _, rfl, rfl, h1, h5, hT, hl, hO, Or.inr ⟨rfl, hG'⟩⟩
theorem i_vc_size {k : Nat} {u : SX} {v : SY} (I : i_Rel k u v) (hk : k + 3 ≤ 1537) : wpX_size (fun r u' => wpY_size (fun r' v' => r' = r ∧ i_Rel (k + 3) u' v') v) u := by
  obtain ⟨n, l, fk, fo, fr, tX, tY, od, wo, lb, gb, lf, rs, yo, re, rfl, rfl, h1, h5, hT, hl, hO, hG⟩ := I
  refine ox_size _ fk h5 hG hl hO (fun fo wo lb gb lf rs hG' => ?_)
  refine oy_size _ tX fr yo re h5 hl hO hT (fun fr yo re => ⟨rfl, ?_⟩)
  exact ⟨n, l, _, _, _, _, _, _, _, _, _, _, _, _, _, rfl, rfl, h1, h5, hT, hl, hO, Or.inr ⟨rfl, hG'⟩⟩
theorem i_vc_least {k : Nat} {u : SX} {v : SY} (I : i_Rel k u v) (hk : k + 3 ≤ 1537) : wpX_least (fun r u' => wpY_least (fun r' v' => r' = r ∧ i_Rel (k + 3) u' v') v) u := by
  obtain ⟨n, l, fk, fo, fr, tX, tY, od, wo, lb, gb, lf, rs, yo, re, rfl, rfl, h1, h5, hT, hl, hO, hG⟩ := I
  have h32 := oz_full32 h5
  have hpos : 0 < 2 ^ n := Nat.two_pow_pos n
  unfold wpX_least wpY_least
  dsimp only
  refine ox_work _ n fo wo lb gb lf rs h5 hG (fun fo wo lb gb lf rs hG' => ?_)
  obtain ⟨e, hm, _⟩ := oz_g_t h5 hG' (S := 2 ^ n - 1) (by omega)
  refine ⟨vp_in_nI h32 (by decide), ?_⟩
  dsimp only
  rw [nI_clamp (n := 2 ^ n - 1) (by omega), e]
  refine oy_lowAll _ tX _ fr yo re h5 h1 hT hm (fun fr yo re => ⟨rfl, ?_⟩)
  exact ⟨n, l, _, _, _, _, _, _, _, _, _, _, _, _, _, rfl, rfl, h1, h5, hT, hl, hO, Or.inr ⟨rfl, hG'⟩⟩
theorem i_vc_best {k : Nat} {u : SX} {v : SY} (I : i_Rel k u v) (hk : k + 3 ≤ 1537) (v1 : Int32) : wpX_best (fun r u' => wpY_best (fun r' v' => r' = r ∧ i_Rel (k + 3) u' v') v v1) u v1 := by
  obtain ⟨n, l, fk, fo, fr, tX, tY, od, wo, lb, gb, lf, rs, yo, re, rfl, rfl, h1, h5, hT, hl, hO, hG⟩ := I
  have hpos : 0 < 2 ^ n := Nat.two_pow_pos n
  have R : i_Rel (k + 3) (nI n, nI (2 ^ n - 1), fk, fo, tX, od, wo, lb, gb, lf, rs) (nI n, fr, tY, od, yo, re) := ⟨n, l, _, _, _, _, _, _, _, _, _, _, _, _, _, rfl, rfl, h1, h5, hT, hl, hO, hG⟩
  rcases oz_ixn v1 h5 with hx | ⟨p, hp, rfl⟩
  · unfold wpX_best wpY_best
    dsimp only
    exact ox_in0 _ v1 hx (br_t rfl (oy_out1 _ v1 hx (br_f (by decide) ⟨rfl, R⟩)))
  · unfold wpX_best
    dsimp only
    refine ox_in1 _ p h5 hp (br_f (by decide) ?_)
    refine ox_work _ n fo wo lb gb lf rs h5 hG (fun fo wo lb gb lf rs hG' => ?_)
    obtain ⟨lz, hz, hPz, hBz⟩ := oz_best_ex h5 hG'
    obtain ⟨_, hm, _⟩ := oz_g_t h5 hG' (S := 2 ^ n - 1) (by omega)
    have e0 : 2 ^ n - 1 = oz_mk (lz.drop 0) := (oz_PS_mk hPz).symm
    have K := ox_best24 (fo := fo) (od := od) (rs := rs) (fun r u' => wpY_best (fun r' v' => r' = r ∧ i_Rel (k + 3) u' v') (nI n, fr, tY, od, yo, re) (nI p)) p h5 hp hG' hPz hBz
      (oy_best _ tX p _ lz fr yo re h5 h1 hp hT hm hz (fun fr yo re => ⟨rfl, n, l, _, _, _, _, _, _, _, _, _, _, _, _, _, rfl, rfl, h1, h5, hT, hl, hO, Or.inr ⟨rfl, hG'⟩⟩)) (p + 1) 0 (by omega) 0 (fun z => absurd z (by omega))
    rw [← e0] at K
    exact ⟨_, K⟩
theorem i_vc_greatest {k : Nat} {u : SX} {v : SY} (I : i_Rel k u v) (hk : k + 3 ≤ 1537) : wpX_greatest (fun r u' => wpY_greatest (fun r' v' => r' = r ∧ i_Rel (k + 3) u' v') v) u := by
  obtain ⟨n, l, fk, fo, fr, tX, tY, od, wo, lb, gb, lf, rs, yo, re, rfl, rfl, h1, h5, hT, hl, hO, hG⟩ := I
  have h32 := oz_full32 h5
  have hpos : 0 < 2 ^ n := Nat.two_pow_pos n
  unfold wpX_greatest
  dsimp only
  refine ox_work _ n fo wo lb gb lf rs h5 hG (fun fo wo lb gb lf rs hG' => ?_)
  obtain ⟨m, e, hm⟩ := hG'.2.2.1 (2 ^ n - 1) (by omega)
  refine ⟨vp_in_nI h32 (by decide), ?_⟩
  dsimp only
  rw [nI_clamp (n := 2 ^ n - 1) (by omega), e]
  refine oy_gr _ tX fr yo re h5 h1 hT (fun fr yo re => ⟨by rw [oz_fx_max _ hm], ?_⟩)
  exact ⟨n, l, _, _, _, _, _, _, _, _, _, _, _, _, _, rfl, rfl, h1, h5, hT, hl, hO, Or.inr ⟨rfl, hG'⟩⟩
theorem i_vc_leastWith {k : Nat} {u : SX} {v : SY} (I : i_Rel k u v) (hk : k + 3 ≤ 1537) (v1 : Int32) (v2 : Int32) : wpX_leastWith (fun r u' => wpY_leastWith (fun r' v' => r' = r ∧ i_Rel (k + 3) u' v') v v1 v2) u v1 v2 := by
  obtain ⟨n, l, fk, fo, fr, tX, tY, od, wo, lb, gb, lf, rs, yo, re, rfl, rfl, h1, h5, hT, hl, hO, hG⟩ := I
  have R : i_Rel (k + 3) (nI n, nI (2 ^ n - 1), fk, fo, tX, od, wo, lb, gb, lf, rs) (nI n, fr, tY, od, yo, re) := ⟨n, l, _, _, _, _, _, _, _, _, _, _, _, _, _, rfl, rfl, h1, h5, hT, hl, hO, hG⟩
  rcases oz_ixn v1 h5 with hx | ⟨p, hp, rfl⟩
  · unfold wpX_leastWith wpY_leastWith
    dsimp only
    exact ox_in0 _ v1 hx (br_t rfl (oy_out1 _ v1 hx (br_f (by decide) ⟨rfl, R⟩)))
  · rcases oz_ixn v2 h5 with hx | ⟨q, hq, rfl⟩
    · unfold wpX_leastWith wpY_leastWith
      dsimp only
      exact ox_in1 _ p h5 hp (br_f (by decide) (ox_in0 _ v2 hx (br_t rfl (oy_out0 _ p h5 hp (br_t rfl (oy_out1 _ v2 hx (br_f (by decide) ⟨rfl, R⟩)))))))
    · unfold wpX_leastWith
      dsimp only
      refine ox_in1 _ p h5 hp (br_f (by decide) (ox_in1 _ q h5 hq (br_f (by decide) ?_)))
      refine ox_work _ n fo wo lb gb lf rs h5 hG (fun fo wo lb gb lf rs hG' => ?_)
      have hY : wpY_leastWith (fun r' v' => r' = nI (oz_wr tX lf lb n p q) ∧ i_Rel (k + 3) (nI n, nI (2 ^ n - 1), 1, fo, tX, od, wo, lb, gb, lf, rs) v') (nI n, fr, tY, od, yo, re) (nI p) (nI q) := by
        refine oy_lW _ tX p q fr yo re h5 h1 hp hq hT (fun fr yo re => ⟨by rw [oz_wr_t h5 hG' hp hq], ?_⟩)
        exact ⟨n, l, _, _, _, _, _, _, _, _, _, _, _, _, _, rfl, rfl, h1, h5, hT, hl, hO, Or.inr ⟨rfl, hG'⟩⟩
      refine ⟨2 ^ n + 1, ox_lW29 _ p q h5 hp hq (oz_wi tX lf lb n p) (fun b hb hv => ?_) hY (2 ^ n) 0 (by omega)⟩
      obtain ⟨k1, k2, _, _⟩ := oz_wi_t h5 hG' hp hb hv
      exact ⟨k1, k2⟩
end
