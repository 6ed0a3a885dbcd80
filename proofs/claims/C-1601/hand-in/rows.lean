section
/-! ===== Int32 by its bits: bt x i ===== -/
def bt (x : Int32) (i : Nat) : Bool := x.toBitVec.getLsbD i
theorem b_ext {x y : Int32} (h : ∀ i, i < 32 → bt x i = bt y i) : x = y := Int32.toBitVec_inj.mp (BitVec.eq_of_getLsbD_eq (fun i hi => h i hi))
theorem b_or (x y : Int32) (i : Nat) : bt (x ||| y) i = (bt x i || bt y i) := by unfold bt; rw [Int32.toBitVec_or, BitVec.getLsbD_or]
theorem b_and (x y : Int32) (i : Nat) : bt (x &&& y) i = (bt x i && bt y i) := by unfold bt; rw [Int32.toBitVec_and, BitVec.getLsbD_and]
theorem b_xor (x y : Int32) (i : Nat) : bt (x ^^^ y) i = (bt x i ^^ bt y i) := by unfold bt; rw [Int32.toBitVec_xor, BitVec.getLsbD_xor]
theorem b_big {x : Int32} {i : Nat} (h : 32 ≤ i) : bt x i = false := BitVec.getLsbD_of_ge _ _ h
theorem b_255 (i : Nat) : bt 255 i = decide (i < 8) := by
  rcases Nat.lt_or_ge i 32 with h | h
  · exact (by decide +kernel : ∀ i, i < 32 → bt 255 i = decide (i < 8)) i h
  · rw [b_big h, decide_eq_false (by omega)]
theorem b_65535 (i : Nat) : bt 65535 i = decide (i < 16) := by
  rcases Nat.lt_or_ge i 32 with h | h
  · exact (by decide +kernel : ∀ i, i < 32 → bt 65535 i = decide (i < 16)) i h
  · rw [b_big h, decide_eq_false (by omega)]
theorem b_m1 : ∀ i, i < 32 → bt (-1) i = true := by decide +kernel
theorem b_0 (i : Nat) : bt 0 i = false := BitVec.getLsbD_zero
theorem s_l : ∀ n, n < 32 → ((nI n &&& 31).toBitVec.smod 32).toNat = n := by decide +kernel
theorem s_u : ∀ n, n < 32 → (((nI n).toUInt32 &&& Int32.toUInt32 31).toBitVec % 32).toNat = n := by decide +kernel
theorem b_shl (n : Nat) (hn : n < 32) (x : Int32) {i : Nat} (hi : i < 32) : bt (x <<< (nI n &&& 31)) i = (decide (n ≤ i) && bt x (i - n)) := by
  unfold bt
  rw [Int32.toBitVec_shiftLeft]
  show (x.toBitVec <<< ((nI n &&& 31).toBitVec.smod 32).toNat).getLsbD i = _
  rw [s_l n hn, BitVec.getLsbD_shiftLeft]
  rcases Nat.lt_or_ge i n with h | h
  · simp [h, Nat.not_le.mpr h]
  · simp [hi, h, Nat.not_lt.mpr h]
theorem b_ushr (n : Nat) (hn : n < 32) (x : Int32) (i : Nat) : bt ((x.toUInt32 >>> ((nI n).toUInt32 &&& Int32.toUInt32 31)).toInt32) i = bt x (n + i) := by
  show (x.toUInt32 >>> ((nI n).toUInt32 &&& Int32.toUInt32 31)).toBitVec.getLsbD i = x.toUInt32.toBitVec.getLsbD (n + i)
  rw [UInt32.toBitVec_shiftRight]
  show (x.toUInt32.toBitVec >>> (((nI n).toUInt32 &&& Int32.toUInt32 31).toBitVec % 32).toNat).getLsbD i = _
  rw [s_u n hn, BitVec.getLsbD_ushiftRight]
theorem b_sshr (n : Nat) (hn : n < 32) (x : Int32) {i : Nat} (hi : i < 32) : bt (x >>> (nI n &&& 31)) i = if n + i < 32 then bt x (n + i) else bt x 31 := by
  unfold bt
  rw [Int32.toBitVec_shiftRight]
  show (x.toBitVec.sshiftRight ((nI n &&& 31).toBitVec.smod 32).toNat).getLsbD i = _
  rw [s_l n hn, BitVec.getLsbD_sshiftRight, BitVec.msb_eq_getLsbD_last]
  simp [hi]
theorem b_shl8 (x : Int32) {i : Nat} (hi : i < 32) : bt (x <<< ((8 : Int32) &&& 31)) i = (decide (8 ≤ i) && bt x (i - 8)) := b_shl 8 (by omega) x hi
theorem b_shl16 (x : Int32) {i : Nat} (hi : i < 32) : bt (x <<< ((16 : Int32) &&& 31)) i = (decide (16 ≤ i) && bt x (i - 16)) := b_shl 16 (by omega) x hi
theorem b_shl24 (x : Int32) {i : Nat} (hi : i < 32) : bt (x <<< ((24 : Int32) &&& 31)) i = (decide (24 ≤ i) && bt x (i - 24)) := b_shl 24 (by omega) x hi
theorem b_sshr8 (x : Int32) {i : Nat} (hi : i < 32) : bt (x >>> ((8 : Int32) &&& 31)) i = if 8 + i < 32 then bt x (8 + i) else bt x 31 := b_sshr 8 (by omega) x hi
theorem pk_us {f : Nat → Int32} {k : Nat} {x : Int32} : upd f k x k = x := if_pos rfl
theorem pk_un {f : Nat → Int32} {k j : Nat} {x : Int32} (h : j ≠ k) : upd f k x j = f j := if_neg h
theorem pk_sub {a b : Nat} (h : b ≤ a) : nI a - nI b = nI (a - b) := by
  obtain ⟨c, rfl⟩ : ∃ c, a = c + b := ⟨a - b, by omega⟩
  rw [← nI_add, Int32.add_sub_cancel, Nat.add_sub_cancel]
theorem pk_m1 (n : Nat) : nI (n + 1) + (-1) = nI n := by
  rw [← nI_1, Int32.add_assoc, show (1 : Int32) + (-1) = 0 from rfl, Int32.add_zero]
theorem pk_ix (x : Int32) {n : Nat} (hn : n < 2 ^ 31) : x < 0 ∨ nI n ≤ x ∨ ∃ j : Nat, j < n ∧ x = nI j := by
  by_cases h : x < 0
  · exact Or.inl h
  · obtain ⟨j, hj, rfl⟩ := nI_of h
    by_cases h2 : j < n
    · exact Or.inr (Or.inr ⟨j, h2, rfl⟩)
    · exact Or.inr (Or.inl (nI_le (by omega) hj))
theorem pk_lT {n : Nat} (h : n < 2 ^ 63) : (lN n).toInt = (n : Int) := lg_ofNat_toInt h
theorem pk_lLT {a b : Nat} (ha : a < 2 ^ 63) (hb : b < 2 ^ 63) : lN a < lN b ↔ a < b := by
  rw [Int64.lt_iff_toInt_lt, pk_lT ha, pk_lT hb]; omega
theorem pk_lLE {a b : Nat} (ha : a < 2 ^ 63) (hb : b < 2 ^ 63) : lN a ≤ lN b ↔ a ≤ b := by
  rw [Int64.le_iff_toInt_le, pk_lT ha, pk_lT hb]; omega
theorem pk_lOf {x : Int64} (h : ¬ x < 0) : ∃ k : Nat, k < 2 ^ 63 ∧ x = lN k := by
  rw [Int64.lt_iff_toInt_lt] at h
  have h0 : (0 : Int64).toInt = 0 := by decide
  have hx := Int64.toInt_lt x
  refine ⟨x.toInt.toNat, by omega, Int64.toInt_inj.mp ?_⟩
  rw [pk_lT (by omega)]
  omega
theorem sh_uu (f : Nat → Int32) (k : Nat) (x y : Int32) : upd (upd f k x) k y = upd f k y := by
  funext j
  unfold upd
  by_cases h : j = k
  · rw [if_pos h, if_pos h]
  · rw [if_neg h, if_neg h, if_neg h]
theorem sh_ue {f : Nat → Int32} {k : Nat} {x : Int32} (h : f k = x) : upd f k x = f := by
  funext j
  unfold upd
  by_cases hj : j = k
  · rw [if_pos hj, hj, h]
  · rw [if_neg hj]
theorem sh_b1 : ∀ i, i < 32 → bt 1 i = decide (i = 0) := by decide +kernel
theorem sh_tst (x : Int32) {d : Nat} (hd : d < 16) : (x >>> (nI d &&& 31)) &&& 1 = if bt x d = true then 1 else 0 := by
  apply b_ext
  intro i hi
  rw [b_and, b_sshr d (by omega) x hi, sh_b1 i hi]
  by_cases h : i = 0
  · subst h
    rw [if_pos (by omega), Nat.add_zero]
    by_cases hb : bt x d = true
    · rw [hb, if_pos rfl, sh_b1 0 (by omega)]; rfl
    · rw [if_neg hb, b_0]
      have : bt x d = false := by simpa using hb
      rw [this]; rfl
  · have e : decide (i = 0) = false := decide_eq_false h
    rw [e, Bool.and_false]
    by_cases hb : bt x d = true
    · rw [if_pos hb, sh_b1 i hi, e]
    · rw [if_neg hb, b_0]
theorem sh_t0 {x : Int32} {d : Nat} (hd : d < 16) (h : bt x d = true) : ¬ (x >>> (nI d &&& 31)) &&& 1 = 0 := by
  rw [sh_tst x hd, if_pos h]; decide
theorem sh_t1 {x : Int32} {d : Nat} (hd : d < 16) (h : bt x d = true) : (x >>> (nI d &&& 31)) &&& 1 = 1 := by
  rw [sh_tst x hd, if_pos h]
theorem sh_f0 {x : Int32} {d : Nat} (hd : d < 16) (h : ¬ bt x d = true) : (x >>> (nI d &&& 31)) &&& 1 = 0 := by
  rw [sh_tst x hd, if_neg h]
theorem sh_f1 {x : Int32} {d : Nat} (hd : d < 16) (h : ¬ bt x d = true) : ¬ (x >>> (nI d &&& 31)) &&& 1 = 1 := by
  rw [sh_tst x hd, if_neg h]; decide
def sh_sb (x : Int32) : Int32 := (1 : Int32) <<< (x &&& 31)
theorem sh_sb_b {a : Nat} (ha : a < 32) (i : Nat) : bt (sh_sb (nI a)) i = decide (i = a) := by
  rcases Nat.lt_or_ge i 32 with h | h
  · unfold sh_sb
    rw [b_shl a ha 1 h]
    by_cases e : i = a
    · subst e
      rw [Nat.sub_self, sh_b1 0 (by omega)]
      simp
    · rw [decide_eq_false e]
      by_cases g : a ≤ i
      · rw [sh_b1 (i - a) (by omega), decide_eq_false (show ¬ i - a = 0 by omega), Bool.and_false]
      · rw [decide_eq_false g, Bool.false_and]
  · rw [b_big h, decide_eq_false (by omega)]
theorem sh_sb_t {a : Nat} (ha : a < 32) {i : Nat} : bt (sh_sb (nI a)) i = true ↔ i = a := by
  rw [sh_sb_b ha, decide_eq_true_eq]
theorem sh_or_t {x y : Int32} {i : Nat} : bt (x ||| y) i = true ↔ bt x i = true ∨ bt y i = true := by
  rw [b_or, Bool.or_eq_true]
theorem sh_and0 {x y : Int32} : x &&& y = 0 ↔ ∀ d, bt x d = true → bt y d = true → False := by
  constructor
  · intro h d h1 h2
    have e : bt (x &&& y) d = false := by rw [h, b_0]
    rw [b_and, h1, h2] at e
    cases e
  · intro h
    apply b_ext
    intro i _
    rw [b_and, b_0]
    by_cases h1 : bt x i = true
    · by_cases h2 : bt y i = true
      · exact (h i h1 h2).elim
      · have : bt y i = false := by simpa using h2
        rw [this, Bool.and_false]
    · have : bt x i = false := by simpa using h1
      rw [this, Bool.false_and]
theorem sh_sub0 {x y : Int32} : x &&& (y ^^^ (-1)) = 0 ↔ ∀ d, bt x d = true → bt y d = true := by
  rw [sh_and0]
  constructor
  · intro h d h1
    by_cases h2 : bt y d = true
    · exact h2
    · exfalso
      have hd : d < 32 := by
        rcases Nat.lt_or_ge d 32 with g | g
        · exact g
        · rw [b_big g] at h1; cases h1
      refine h d h1 ?_
      have : bt y d = false := by simpa using h2
      rw [b_xor, this, b_m1 d hd]; rfl
  · intro h d h1 h2
    have hd : d < 32 := by
      rcases Nat.lt_or_ge d 32 with g | g
      · exact g
      · rw [b_big g] at h1; cases h1
    rw [b_xor, h d h1, b_m1 d hd] at h2
    cases h2
theorem sh_or_self {x : Int32} {a : Nat} (ha : a < 32) (h : bt x a = true) : x ||| sh_sb (nI a) = x := by
  apply b_ext
  intro i _
  rw [b_or, sh_sb_b ha]
  by_cases e : i = a
  · subst e; rw [h]; simp
  · rw [decide_eq_false e, Bool.or_false]
def sh_hl (h l : Int32) : Int32 := (((1 : Int32) <<< ((h + 1) &&& 31)) - 1) &&& ((((1 : Int32) <<< (l &&& 31)) - 1) ^^^ (-1))
theorem sh_hi : ∀ h, h < 16 → ∀ d, d < 32 → bt (((1 : Int32) <<< ((nI h + 1) &&& 31)) - 1) d = decide (d ≤ h) := by decide +kernel
theorem sh_lo : ∀ l, l < 16 → ∀ d, d < 32 → bt (((1 : Int32) <<< (nI l &&& 31)) - 1) d = decide (d < l) := by decide +kernel
theorem sh_hl_t {h l d : Nat} (hh : h < 16) (hl : l < 16) : bt (sh_hl (nI h) (nI l)) d = true ↔ l ≤ d ∧ d ≤ h := by
  rcases Nat.lt_or_ge d 32 with g | g
  · unfold sh_hl
    rw [b_and, b_xor, sh_hi h hh d g, sh_lo l hl d g, b_m1 d g]
    by_cases h1 : d ≤ h
    · by_cases h2 : d < l
      · simp [h1, h2]
      · simp [h1, h2]; omega
    · simp [h1]
  · rw [b_big g]
    constructor
    · intro z; cases z
    · intro z; omega
def sh_sp (a b : Int32) : Int32 := if b ≤ a then sh_hl a b else sh_hl b a
theorem sh_sp_t {a b d : Nat} (ha : a < 16) (hb : b < 16) : bt (sh_sp (nI a) (nI b)) d = true ↔ (a ≤ d ∧ d ≤ b) ∨ (b ≤ d ∧ d ≤ a) := by
  unfold sh_sp
  by_cases h : b ≤ a
  · rw [if_pos ((nI_leI (by omega) (by omega)).mpr h), sh_hl_t ha hb]; omega
  · rw [if_neg (fun z => h ((nI_leI (by omega) (by omega)).mp z)), sh_hl_t hb ha]; omega
def sh_pc (M : Int32) : Nat → Nat
  | 0 => 0
  | n + 1 => sh_pc M n + (if bt M n = true then 1 else 0)
theorem sh_pc_le (M : Int32) : ∀ n, sh_pc M n ≤ n := by
  intro n
  induction n with
  | zero => exact Nat.le_refl 0
  | succ n ih =>
    unfold sh_pc
    by_cases h : bt M n = true
    · rw [if_pos h]; omega
    · rw [if_neg h]; omega
theorem sh_pc_all (M : Int32) : ∀ n, n ≤ sh_pc M n → ∀ i, i < n → bt M i = true := by
  intro n
  induction n with
  | zero => intro _ i hi; omega
  | succ n ih =>
    intro h i hi
    unfold sh_pc at h
    have := sh_pc_le M n
    by_cases g : bt M n = true
    · rw [if_pos g] at h
      rcases Nat.lt_or_ge i n with q | q
      · exact ih (by omega) i q
      · have : i = n := by omega
        rw [this]; exact g
    · rw [if_neg g] at h; omega
theorem sh_pc_or {M : Int32} {a : Nat} (ha : a < 32) (h : ¬ bt M a = true) : ∀ n, sh_pc (M ||| sh_sb (nI a)) n = sh_pc M n + (if a < n then 1 else 0) := by
  intro n
  induction n with
  | zero => rfl
  | succ n ih =>
    unfold sh_pc
    rw [ih]
    by_cases e : n = a
    · have h1 : bt (M ||| sh_sb (nI a)) n = true := by rw [sh_or_t, sh_sb_t ha]; exact Or.inr e
      have h2 : ¬ bt M n = true := by rw [e]; exact h
      rw [if_pos h1, if_neg h2, if_neg (show ¬ a < n by omega), if_pos (show a < n + 1 by omega)]
    · have h1 : (bt (M ||| sh_sb (nI a)) n = true) ↔ bt M n = true := by
        rw [sh_or_t, sh_sb_t ha]
        constructor
        · rintro (z | z)
          · exact z
          · exact absurd z e
        · exact Or.inl
      by_cases h2 : bt M n = true
      · rw [if_pos h2, if_pos (h1.mpr h2)]
        by_cases g : a < n
        · rw [if_pos g, if_pos (by omega)]
        · rw [if_neg g, if_neg (by omega)]
      · rw [if_neg h2, if_neg (fun z => h2 (h1.mp z))]
        by_cases g : a < n
        · rw [if_pos g, if_pos (by omega)]
        · rw [if_neg g, if_neg (by omega)]
end
section
def sh_tg (v b : Int32) : Int32 := if v.toInt64 + b.toInt64 < 0 then -1 else if 16 ≤ v.toInt64 + b.toInt64 then -1 else (v.toInt64 + b.toInt64).toInt32
theorem sh_tg_c (v b : Int32) : sh_tg v b = -1 ∨ ∃ t : Nat, t < 16 ∧ sh_tg v b = nI t := by
  unfold sh_tg
  generalize v.toInt64 + b.toInt64 = x
  by_cases h : x < 0
  · exact Or.inl (if_pos h)
  · by_cases h2 : 16 ≤ x
    · left; rw [if_neg h, if_pos h2]
    · right
      rw [if_neg h, if_neg h2]
      obtain ⟨t, ht, rfl⟩ := pk_lOf h
      have h3 : ¬ lN 16 ≤ lN t := h2
      rw [pk_lLE (by omega) ht] at h3
      exact ⟨t, by omega, lN_i t⟩
theorem sh_l16 (x : Int64) : ¬ x ≤ 15 ↔ 16 ≤ x := by
  rw [Int64.le_iff_toInt_le, Int64.le_iff_toInt_le]
  have h1 : (15 : Int64).toInt = 15 := by decide
  have h2 : (16 : Int64).toInt = 16 := by decide
  omega
theorem sh_i16 (x : Int32) : 15 < x ↔ 16 ≤ x := by
  rw [Int32.lt_iff_toInt_lt, Int32.le_iff_toInt_le]
  have h1 : (15 : Int32).toInt = 15 := by decide
  have h2 : (16 : Int32).toInt = 16 := by decide
  omega
def sh_t (a b : Int32) (st va : Nat → Int32) : Int32 := if st a.toNatClampNeg = 0 then sh_tg (va a.toNatClampNeg) b else -1
def sh_n (o a b : Int32) (st va : Nat → Int32) : Int32 :=
  if o < 0 then 0 else if o = 8 then 0 else if o = 5 then sh_sp a b else if o = 6 then sh_sb a
  else if o = 4 then (if sh_t a b st va < 0 then sh_sb a else sh_sb a ||| sh_sb (sh_t a b st va)) else sh_sb a ||| sh_sb b
def sh_fe (st : Nat → Int32) (q : Int32) : Nat → Int32
  | 0 => 0
  | n + 1 => if bt q (15 - n) = true ∧ ¬ st (15 - n) = 0 then st (15 - n) else sh_fe st q n
def sh_sm (va : Nat → Int32) (q : Int32) : Nat → Int32 → Int32
  | 0 => fun x => x
  | n + 1 => fun x => sh_sm va q n (if bt q (15 - n) = true then x + va (15 - n) else x)
def sh_ar (o x y : Int32) : Int32 := if o = 0 then x + y else if o = 1 then x - y else if o = 2 then x * y else if o = 3 then x / y else if x = 0 then 0 else y
def sh_e4 (b : Int32) (st va : Nat → Int32) (x : Nat) : Int32 × Int32 :=
  if st x = 0 then (if sh_tg (va x) b < 0 then (2, 0) else if st (sh_tg (va x) b).toNatClampNeg = 0 then (0, va (sh_tg (va x) b).toNatClampNeg) else (st (sh_tg (va x) b).toNatClampNeg, 0)) else (st x, 0)
def sh_e5 (q : Int32) (st va : Nat → Int32) : Int32 × Int32 := if sh_fe st q 16 = 0 then (0, sh_sm va q 16 0) else (sh_fe st q 16, 0)
def sh_e2 (o : Int32) (st va : Nat → Int32) (x y : Nat) : Int32 × Int32 :=
  if st x = 0 then (if st y = 0 then (if o = 3 ∧ va y = 0 then (1, 0) else (0, sh_ar o (va x) (va y))) else (st y, 0)) else (st x, 0)
def sh_e (o a b k : Int32) (st va : Nat → Int32) : Int32 × Int32 :=
  if o < 0 then (0, k) else if o = 6 then (0, if st a.toNatClampNeg = 0 then 0 else 1) else if o = 8 then (2, 0)
  else if o = 5 then sh_e5 (sh_sp a b) st va else if o = 4 then sh_e4 b st va a.toNatClampNeg else sh_e2 o st va a.toNatClampNeg b.toNatClampNeg
def sh_two (o : Int32) : Prop := o = 0 ∨ o = 1 ∨ o = 2 ∨ o = 3 ∨ o = 7
def sh_cf (o a b : Int32) : Prop :=
  (o = -1 ∧ a = 0 ∧ b = 0) ∨ (o = 8 ∧ a = 0 ∧ b = 0) ∨ (o = 6 ∧ (∃ x : Nat, x < 16 ∧ a = nI x) ∧ b = 0)
  ∨ (o = 4 ∧ (∃ x : Nat, x < 16 ∧ a = nI x) ∧ ¬ b < -15 ∧ ¬ 15 < b)
  ∨ (o = 5 ∧ (∃ x : Nat, x < 16 ∧ a = nI x) ∧ ∃ y : Nat, y < 16 ∧ b = nI y)
  ∨ (sh_two o ∧ (∃ x : Nat, x < 16 ∧ a = nI x) ∧ ∃ y : Nat, y < 16 ∧ b = nI y)
theorem sh_two_n {o : Int32} (h : sh_two o) : ¬ o < 0 ∧ ¬ o = 8 ∧ ¬ o = 5 ∧ ¬ o = 6 ∧ ¬ o = 4 := by
  rcases h with rfl | rfl | rfl | rfl | rfl <;> decide
section
variable {a b k : Int32} {st va : Nat → Int32}
theorem sh_n_m1 : sh_n (-1) a b st va = 0 := if_pos (by decide)
theorem sh_n_8 : sh_n 8 a b st va = 0 := by unfold sh_n; rw [if_neg (by decide), if_pos rfl]
theorem sh_n_5 : sh_n 5 a b st va = sh_sp a b := by unfold sh_n; rw [if_neg (by decide), if_neg (by decide), if_pos rfl]
theorem sh_n_6 : sh_n 6 a b st va = sh_sb a := by unfold sh_n; rw [if_neg (by decide), if_neg (by decide), if_neg (by decide), if_pos rfl]
theorem sh_n_4 : sh_n 4 a b st va = if sh_t a b st va < 0 then sh_sb a else sh_sb a ||| sh_sb (sh_t a b st va) := by
  unfold sh_n; rw [if_neg (by decide), if_neg (by decide), if_neg (by decide), if_neg (by decide), if_pos rfl]
theorem sh_n_2 {o : Int32} (h : sh_two o) : sh_n o a b st va = sh_sb a ||| sh_sb b := by
  obtain ⟨h1, h2, h3, h4, h5⟩ := sh_two_n h
  unfold sh_n; rw [if_neg h1, if_neg h2, if_neg h3, if_neg h4, if_neg h5]
theorem sh_e_m1 : sh_e (-1) a b k st va = (0, k) := if_pos (by decide)
theorem sh_e_6 : sh_e 6 a b k st va = (0, if st a.toNatClampNeg = 0 then 0 else 1) := by unfold sh_e; rw [if_neg (by decide), if_pos rfl]
theorem sh_e_8 : sh_e 8 a b k st va = (2, 0) := by unfold sh_e; rw [if_neg (by decide), if_neg (by decide), if_pos rfl]
theorem sh_e_5 : sh_e 5 a b k st va = sh_e5 (sh_sp a b) st va := by unfold sh_e; rw [if_neg (by decide), if_neg (by decide), if_neg (by decide), if_pos rfl]
theorem sh_e_4 : sh_e 4 a b k st va = sh_e4 b st va a.toNatClampNeg := by
  unfold sh_e; rw [if_neg (by decide), if_neg (by decide), if_neg (by decide), if_neg (by decide), if_pos rfl]
theorem sh_e_2 {o : Int32} (h : sh_two o) : sh_e o a b k st va = sh_e2 o st va a.toNatClampNeg b.toNatClampNeg := by
  obtain ⟨h1, h2, h3, h4, h5⟩ := sh_two_n h
  unfold sh_e; rw [if_neg h1, if_neg h4, if_neg h2, if_neg h3, if_neg h5]
end
theorem sh_t_x {x : Nat} (hx : x < 16) (b : Int32) (st va : Nat → Int32) : sh_t (nI x) b st va = if st x = 0 then sh_tg (va x) b else -1 := by
  unfold sh_t; rw [nI_clamp (by omega)]
theorem sh_t_c {x : Nat} (hx : x < 16) (b : Int32) (st va : Nat → Int32) : sh_t (nI x) b st va = -1 ∨ ∃ t : Nat, t < 16 ∧ sh_t (nI x) b st va = nI t := by
  rw [sh_t_x hx]
  by_cases h : st x = 0
  · rw [if_pos h]; exact sh_tg_c _ _
  · rw [if_neg h]; exact Or.inl rfl
theorem sh_n_4x {x : Nat} (hx : x < 16) (b : Int32) (st va : Nat → Int32) : bt (sh_n 4 (nI x) b st va) x = true := by
  rw [sh_n_4]
  by_cases h : sh_t (nI x) b st va < 0
  · rw [if_pos h]; exact (sh_sb_t (by omega)).mpr rfl
  · rw [if_neg h]; exact sh_or_t.mpr (Or.inl ((sh_sb_t (by omega)).mpr rfl))
theorem sh_n_4y {x y : Nat} (hx : x < 16) (hy : y < 16) {b : Int32} {st va : Nat → Int32} (h0 : st x = 0) (e : sh_tg (va x) b = nI y) : bt (sh_n 4 (nI x) b st va) y = true := by
  have et : sh_t (nI x) b st va = nI y := by rw [sh_t_x hx, if_pos h0, e]
  rw [sh_n_4, et, if_neg (nI_pos (by omega))]
  exact sh_or_t.mpr (Or.inr ((sh_sb_t (by omega)).mpr rfl))
theorem sh_nb {o a b : Int32} {st va : Nat → Int32} (h : sh_cf o a b) {d : Nat} (hd : bt (sh_n o a b st va) d = true) : d < 16 := by
  rcases h with ⟨rfl, -, -⟩ | ⟨rfl, -, -⟩ | ⟨rfl, ⟨x, hx, rfl⟩, -⟩ | ⟨rfl, ⟨x, hx, rfl⟩, -, -⟩ | ⟨rfl, ⟨x, hx, rfl⟩, y, hy, rfl⟩ | ⟨h2, ⟨x, hx, rfl⟩, y, hy, rfl⟩
  · rw [sh_n_m1, b_0] at hd; cases hd
  · rw [sh_n_8, b_0] at hd; cases hd
  · rw [sh_n_6, sh_sb_t (by omega)] at hd; omega
  · rw [sh_n_4] at hd
    rcases sh_t_c hx b st va with e | ⟨t, ht, e⟩
    · rw [e, if_pos (by decide), sh_sb_t (by omega)] at hd; omega
    · rw [e, if_neg (nI_pos (by omega)), sh_or_t, sh_sb_t (by omega), sh_sb_t (by omega)] at hd; omega
  · rw [sh_n_5, sh_sp_t hx hy] at hd; omega
  · rw [sh_n_2 h2, sh_or_t, sh_sb_t (by omega), sh_sb_t (by omega)] at hd; omega
theorem sh_fe_loc {q : Int32} {st st' : Nat → Int32} (H : ∀ d, d < 16 → bt q d = true → st' d = st d) : ∀ n, n ≤ 16 → sh_fe st' q n = sh_fe st q n := by
  intro n
  induction n with
  | zero => intro _; rfl
  | succ n ih =>
    intro hn
    unfold sh_fe
    rw [ih (by omega)]
    by_cases hb : bt q (15 - n) = true
    · rw [H (15 - n) (by omega) hb]
    · rw [if_neg (fun z => hb z.1), if_neg (fun z => hb z.1)]
theorem sh_sm_loc {q : Int32} {va va' : Nat → Int32} (H : ∀ d, d < 16 → bt q d = true → va' d = va d) : ∀ n, n ≤ 16 → ∀ x, sh_sm va' q n x = sh_sm va q n x := by
  intro n
  induction n with
  | zero => intro _ _; rfl
  | succ n ih =>
    intro hn x
    unfold sh_sm
    rw [ih (by omega)]
    by_cases hb : bt q (15 - n) = true
    · rw [H (15 - n) (by omega) hb]
    · rw [if_neg hb, if_neg hb]
theorem sh_loc {o a b : Int32} {st va st' va' : Nat → Int32} (h : sh_cf o a b) (H : ∀ d, d < 16 → bt (sh_n o a b st va) d = true → st' d = st d ∧ va' d = va d) :
    sh_n o a b st' va' = sh_n o a b st va ∧ ∀ k, sh_e o a b k st' va' = sh_e o a b k st va := by
  rcases h with ⟨rfl, -, -⟩ | ⟨rfl, -, -⟩ | ⟨rfl, ⟨x, hx, rfl⟩, -⟩ | ⟨rfl, ⟨x, hx, rfl⟩, -, -⟩ | ⟨rfl, ⟨x, hx, rfl⟩, y, hy, rfl⟩ | ⟨h2, ⟨x, hx, rfl⟩, y, hy, rfl⟩
  · exact ⟨by rw [sh_n_m1, sh_n_m1], fun k => by rw [sh_e_m1, sh_e_m1]⟩
  · exact ⟨by rw [sh_n_8, sh_n_8], fun k => by rw [sh_e_8, sh_e_8]⟩
  · have e := H x hx (by rw [sh_n_6]; exact (sh_sb_t (by omega)).mpr rfl)
    exact ⟨by rw [sh_n_6, sh_n_6], fun k => by rw [sh_e_6, sh_e_6, nI_clamp (by omega), e.1]⟩
  · obtain ⟨e1, e2⟩ := H x hx (sh_n_4x hx b st va)
    have et : sh_t (nI x) b st' va' = sh_t (nI x) b st va := by rw [sh_t_x hx, sh_t_x hx, e1, e2]
    refine ⟨by rw [sh_n_4, sh_n_4, et], fun k => ?_⟩
    rw [sh_e_4, sh_e_4, nI_clamp (by omega)]
    unfold sh_e4
    rw [e1, e2]
    by_cases h0 : st x = 0
    · rw [if_pos h0, if_pos h0]
      rcases sh_tg_c (va x) b with e | ⟨y, hy, e⟩
      · rw [e, if_pos (by decide), if_pos (by decide)]
      · obtain ⟨e3, e4⟩ := H y hy (sh_n_4y hx hy h0 e)
        rw [e, nI_clamp (by omega), e3, e4]
    · rw [if_neg h0, if_neg h0]
  · refine ⟨by rw [sh_n_5, sh_n_5], fun k => ?_⟩
    rw [sh_n_5] at H
    rw [sh_e_5, sh_e_5]
    unfold sh_e5
    rw [sh_fe_loc (fun d hd hb => (H d hd hb).1) 16 (by omega), sh_sm_loc (fun d hd hb => (H d hd hb).2) 16 (by omega)]
  · rw [sh_n_2 h2] at H
    have e := H x hx (sh_or_t.mpr (Or.inl ((sh_sb_t (by omega)).mpr rfl)))
    have e' := H y hy (sh_or_t.mpr (Or.inr ((sh_sb_t (by omega)).mpr rfl)))
    refine ⟨by rw [sh_n_2 h2, sh_n_2 h2], fun k => ?_⟩
    rw [sh_e_2 h2, sh_e_2 h2, nI_clamp (by omega), nI_clamp (by omega)]
    unfold sh_e2
    rw [e.1, e.2, e'.1, e'.2]
theorem sh_mono {o a b : Int32} {st va st' va' : Nat → Int32} (h : sh_cf o a b) (H : ∀ d, d < 16 → ¬ st d = 3 → st' d = st d ∧ va' d = va d) {d : Nat}
    (hd : bt (sh_n o a b st va) d = true) : bt (sh_n o a b st' va') d = true := by
  rcases h with ⟨rfl, -, -⟩ | ⟨rfl, -, -⟩ | ⟨rfl, ⟨x, hx, rfl⟩, -⟩ | ⟨rfl, ⟨x, hx, rfl⟩, -, -⟩ | ⟨rfl, ⟨x, hx, rfl⟩, y, hy, rfl⟩ | ⟨h2, ⟨x, hx, rfl⟩, y, hy, rfl⟩
  · rw [sh_n_m1] at hd ⊢; exact hd
  · rw [sh_n_8] at hd ⊢; exact hd
  · rw [sh_n_6] at hd ⊢; exact hd
  · by_cases h0 : st x = 0
    · obtain ⟨e1, e2⟩ := H x hx (by rw [h0]; decide)
      have et : sh_t (nI x) b st' va' = sh_t (nI x) b st va := by rw [sh_t_x hx, sh_t_x hx, e1, e2]
      rw [sh_n_4] at hd ⊢
      rw [et]; exact hd
    · have et : sh_t (nI x) b st va = -1 := by rw [sh_t_x hx, if_neg h0]
      rw [sh_n_4, et, if_pos (by decide), sh_sb_t (by omega)] at hd
      rw [hd]
      exact sh_n_4x hx b st' va'
  · rw [sh_n_5] at hd ⊢; exact hd
  · rw [sh_n_2 h2] at hd ⊢; exact hd
def sh_rg (x : Int32) : Prop := x = 0 ∨ x = 1 ∨ x = 2 ∨ x = 3
theorem sh_fe_p {q : Int32} {st : Nat → Int32} {P : Int32 → Prop} (P0 : P 0) (H : ∀ d, d < 16 → bt q d = true → P (st d)) : ∀ n, n ≤ 16 → P (sh_fe st q n) := by
  intro n
  induction n with
  | zero => intro _; exact P0
  | succ n ih =>
    intro hn
    unfold sh_fe
    by_cases hb : bt q (15 - n) = true ∧ ¬ st (15 - n) = 0
    · rw [if_pos hb]; exact H _ (by omega) hb.1
    · rw [if_neg hb]; exact ih (by omega)
theorem sh_e_p {o a b k : Int32} {st va : Nat → Int32} {P : Int32 → Prop} (P0 : P 0) (P1 : P 1) (P2 : P 2) (h : sh_cf o a b)
    (H : ∀ d, d < 16 → bt (sh_n o a b st va) d = true → P (st d)) : P (sh_e o a b k st va).1 := by
  rcases h with ⟨rfl, -, -⟩ | ⟨rfl, -, -⟩ | ⟨rfl, ⟨x, hx, rfl⟩, -⟩ | ⟨rfl, ⟨x, hx, rfl⟩, -, -⟩ | ⟨rfl, ⟨x, hx, rfl⟩, y, hy, rfl⟩ | ⟨h2, ⟨x, hx, rfl⟩, y, hy, rfl⟩
  · rw [sh_e_m1]; exact P0
  · rw [sh_e_8]; exact P2
  · rw [sh_e_6]; exact P0
  · rw [sh_e_4, nI_clamp (by omega)]
    have hxx := H x hx (sh_n_4x hx b st va)
    unfold sh_e4
    by_cases h0 : st x = 0
    · rw [if_pos h0]
      rcases sh_tg_c (va x) b with e | ⟨y, hy, e⟩
      · rw [e, if_pos (by decide)]; exact P2
      · have hyy := H y hy (sh_n_4y hx hy h0 e)
        rw [e, if_neg (nI_pos (by omega)), nI_clamp (by omega)]
        by_cases h1 : st y = 0
        · rw [if_pos h1]; exact P0
        · rw [if_neg h1]; exact hyy
    · rw [if_neg h0]; exact hxx
  · rw [sh_n_5] at H
    rw [sh_e_5]
    have hf := sh_fe_p P0 H 16 (by omega)
    unfold sh_e5
    by_cases h0 : sh_fe st (sh_sp (nI x) (nI y)) 16 = 0
    · rw [if_pos h0]; exact P0
    · rw [if_neg h0]; exact hf
  · rw [sh_n_2 h2] at H
    have e := H x hx (sh_or_t.mpr (Or.inl ((sh_sb_t (by omega)).mpr rfl)))
    have e' := H y hy (sh_or_t.mpr (Or.inr ((sh_sb_t (by omega)).mpr rfl)))
    rw [sh_e_2 h2, nI_clamp (by omega), nI_clamp (by omega)]
    unfold sh_e2
    by_cases h0 : st x = 0
    · rw [if_pos h0]
      by_cases h1 : st y = 0
      · rw [if_pos h1]
        by_cases h3 : o = 3 ∧ va y = 0
        · rw [if_pos h3]; exact P1
        · rw [if_neg h3]; exact P0
      · rw [if_neg h1]; exact e'
    · rw [if_neg h0]; exact e
theorem sh_e_k {o a b k k' : Int32} {st va : Nat → Int32} (h : sh_cf o a b) (hk : o = -1 → k' = k) : sh_e o a b k' st va = sh_e o a b k st va := by
  rcases h with ⟨rfl, -, -⟩ | ⟨rfl, -, -⟩ | ⟨rfl, -, -⟩ | ⟨rfl, -, -, -⟩ | ⟨rfl, -, -⟩ | ⟨h2, -, -⟩
  · rw [hk rfl]
  · rw [sh_e_8, sh_e_8]
  · rw [sh_e_6, sh_e_6]
  · rw [sh_e_4, sh_e_4]
  · rw [sh_e_5, sh_e_5]
  · rw [sh_e_2 h2, sh_e_2 h2]
theorem sh_nar_rg {x : Int32} (h : sh_rg x) : vp_nar .byte x = x := by
  rcases h with rfl | rfl | rfl | rfl <;> rw [vp_nar_byte] <;> decide
theorem sh_nar {x : Int32} (h1 : ¬ x < -15) (h2 : ¬ 15 < x) : vp_nar .byte x.toInt8.toInt32 = x := by
  rw [Int32.lt_iff_toInt_lt] at h1 h2
  have e1 : (-15 : Int32).toInt = -15 := by decide
  have e2 : (15 : Int32).toInt = 15 := by decide
  have h : x.toInt8.toInt32 = x := lg_i2b_small (by omega) (by omega)
  rw [h, vp_nar_byte, h]
theorem sh_nar_x {x : Nat} (h : x < 16) : vp_nar .byte (nI x).toInt8.toInt32 = nI x := by
  apply sh_nar
  · rw [Int32.lt_iff_toInt_lt, nI_toInt (by omega)]
    have e1 : (-15 : Int32).toInt = -15 := by decide
    omega
  · rw [Int32.lt_iff_toInt_lt, nI_toInt (by omega)]
    have e1 : (15 : Int32).toInt = 15 := by decide
    omega
theorem sh_nar_rg8 {x : Int32} (h : sh_rg x) : vp_nar .byte x.toInt8.toInt32 = x := by
  rcases h with rfl | rfl | rfl | rfl <;> rw [vp_nar_byte] <;> decide
theorem sh_nar_cf {o a b : Int32} (h : sh_cf o a b) : vp_nar .byte o.toInt8.toInt32 = o ∧ vp_nar .byte a.toInt8.toInt32 = a ∧ vp_nar .byte b.toInt8.toInt32 = b := by
  have z : vp_nar .byte (0 : Int32).toInt8.toInt32 = 0 := by rw [vp_nar_byte]; decide
  rcases h with ⟨rfl, rfl, rfl⟩ | ⟨rfl, rfl, rfl⟩ | ⟨rfl, ⟨x, hx, rfl⟩, rfl⟩ | ⟨rfl, ⟨x, hx, rfl⟩, h1, h2⟩ | ⟨rfl, ⟨x, hx, rfl⟩, y, hy, rfl⟩ | ⟨h2, ⟨x, hx, rfl⟩, y, hy, rfl⟩
  · exact ⟨by rw [vp_nar_byte]; decide, z, z⟩
  · exact ⟨by rw [vp_nar_byte]; decide, z, z⟩
  · exact ⟨by rw [vp_nar_byte]; decide, sh_nar_x hx, z⟩
  · exact ⟨by rw [vp_nar_byte]; decide, sh_nar_x hx, sh_nar h1 h2⟩
  · exact ⟨by rw [vp_nar_byte]; decide, sh_nar_x hx, sh_nar_x hy⟩
  · refine ⟨?_, sh_nar_x hx, sh_nar_x hy⟩
    rcases h2 with rfl | rfl | rfl | rfl | rfl <;> rw [vp_nar_byte] <;> decide
end
section
def sh_N (o f s st va : Nat → Int32) (i : Nat) : Int32 := sh_n (o i) (f i) (s i) st va
def sh_E (o f s k st va : Nat → Int32) (i : Nat) : Int32 × Int32 := sh_e (o i) (f i) (s i) (k i) st va
def sh_W (o f s : Nat → Int32) : Prop := ∀ i, i < 16 → sh_cf (o i) (f i) (s i)
def sh_ok (o f s k st va : Nat → Int32) (rk : Nat → Nat) (i : Nat) : Prop :=
  ¬ st i = 3 ∧ (∀ d, d < 16 → bt (sh_N o f s st va i) d = true → ¬ st d = 3 ∧ rk d < rk i) ∧ st i = (sh_E o f s k st va i).1 ∧ va i = (sh_E o f s k st va i).2
def sh_ci (o f s st va : Nat → Int32) (i : Nat) : Prop :=
  st i = 3 ∧ va i = 0 ∧ ∃ d, d < 16 ∧ bt (sh_N o f s st va i) d = true ∧ st d = 3
def sh_G (o f s k st va : Nat → Int32) : Prop := ∃ rk : Nat → Nat, ∀ i, i < 16 → sh_ok o f s k st va rk i ∨ sh_ci o f s st va i
theorem sh_bd (rk : Nat → Nat) : ∀ n, ∃ B : Nat, ∀ d, d < n → rk d < B := by
  intro n
  induction n with
  | zero => exact ⟨0, fun d hd => absurd hd (Nat.not_lt_zero d)⟩
  | succ n ih =>
    obtain ⟨B, hB⟩ := ih
    refine ⟨B + rk n + 1, fun d hd => ?_⟩
    rcases Nat.lt_or_ge d n with h | h
    · have := hB d h; omega
    · have : d = n := by omega
      rw [this]; omega
theorem sh_Nloc {o f s st va st' va' : Nat → Int32} {i : Nat} (W : sh_cf (o i) (f i) (s i)) (H : ∀ d, d < 16 → bt (sh_N o f s st va i) d = true → st' d = st d ∧ va' d = va d) :
    sh_N o f s st' va' i = sh_N o f s st va i ∧ ∀ k, sh_E o f s k st' va' i = sh_E o f s k st va i :=
  ⟨(sh_loc W H).1, fun k => (sh_loc W H).2 (k i)⟩
theorem sh_Nmono {o f s st va st' va' : Nat → Int32} {i : Nat} (W : sh_cf (o i) (f i) (s i)) (H : ∀ d, d < 16 → ¬ st d = 3 → st' d = st d ∧ va' d = va d) {d : Nat}
    (hd : bt (sh_N o f s st va i) d = true) : bt (sh_N o f s st' va' i) d = true := sh_mono W H hd
theorem sh_Nb {o f s st va : Nat → Int32} {i : Nat} (W : sh_cf (o i) (f i) (s i)) {d : Nat} (hd : bt (sh_N o f s st va i) d = true) : d < 16 := sh_nb W hd
section
variable {o f s k st va st' va' : Nat → Int32}
theorem sh_uni1 (W : sh_W o f s) {rk : Nat → Nat} (G : ∀ i, i < 16 → sh_ok o f s k st va rk i ∨ sh_ci o f s st va i) (G' : sh_G o f s k st' va') :
    ∀ n i, i < 16 → rk i < n → ¬ st i = 3 → st' i = st i ∧ va' i = va i := by
  obtain ⟨rk', G'⟩ := G'
  intro n
  induction n with
  | zero => intro i _ h; exact absurd h (Nat.not_lt_zero _)
  | succ n ih =>
    intro i hi hr h3
    rcases G i hi with g | g
    · obtain ⟨-, g2, g3, g4⟩ := g
      have H : ∀ d, d < 16 → bt (sh_N o f s st va i) d = true → st' d = st d ∧ va' d = va d := fun d hd hb =>
        ih d hd (by have := (g2 d hd hb).2; omega) (g2 d hd hb).1
      obtain ⟨eN, eE⟩ := sh_Nloc (W i hi) H
      rcases G' i hi with g' | g'
      · obtain ⟨-, -, g5, g6⟩ := g'
        rw [eE] at g5 g6
        exact ⟨g5.trans g3.symm, g6.trans g4.symm⟩
      · obtain ⟨-, -, d, hd, hb, h5⟩ := g'
        rw [eN] at hb
        rw [(H d hd hb).1] at h5
        exact absurd h5 (g2 d hd hb).1
    · exact absurd g.1 h3
theorem sh_uni (W : sh_W o f s) (G : sh_G o f s k st va) (G' : sh_G o f s k st' va') : ∀ i, i < 16 → st' i = st i ∧ va' i = va i := by
  intro i hi
  obtain ⟨rk, g⟩ := G
  obtain ⟨rk', g'⟩ := G'
  by_cases h : st i = 3
  · by_cases h' : st' i = 3
    · rcases g i hi with a | a
      · exact absurd h a.1
      · rcases g' i hi with b | b
        · exact absurd h' b.1
        · exact ⟨h'.trans h.symm, b.2.1.trans a.2.1.symm⟩
    · have := sh_uni1 W g' ⟨rk, g⟩ (rk' i + 1) i hi (by omega) h'
      exact ⟨this.1.symm, this.2.symm⟩
  · exact sh_uni1 W g ⟨rk', g'⟩ (rk i + 1) i hi (by omega) h
theorem sh_Gk {k' : Nat → Int32} (W : sh_W o f s) (hk : ∀ i, i < 16 → o i = -1 → k' i = k i) (G : sh_G o f s k st va) : sh_G o f s k' st va := by
  obtain ⟨rk, g⟩ := G
  refine ⟨rk, fun i hi => ?_⟩
  rcases g i hi with a | a
  · left
    have e : sh_E o f s k' st va i = sh_E o f s k st va i := sh_e_k (W i hi) (hk i hi)
    refine ⟨a.1, a.2.1, ?_, ?_⟩
    · rw [e]; exact a.2.2.1
    · rw [e]; exact a.2.2.2
  · exact Or.inr a
theorem sh_Gc (W : sh_W o f s) (H : ∀ d, d < 16 → st' d = st d ∧ va' d = va d) (G : sh_G o f s k st va) : sh_G o f s k st' va' := by
  obtain ⟨rk, g⟩ := G
  refine ⟨rk, fun i hi => ?_⟩
  obtain ⟨eN, eE⟩ := sh_Nloc (st := st) (va := va) (st' := st') (va' := va') (W i hi) (fun d hd _ => H d hd)
  rcases g i hi with a | a
  · left
    refine ⟨by rw [(H i hi).1]; exact a.1, fun d hd hb => ?_, ?_, ?_⟩
    · rw [eN] at hb
      rw [(H d hd).1]
      exact a.2.1 d hd hb
    · rw [eE, (H i hi).1]; exact a.2.2.1
    · rw [eE, (H i hi).2]; exact a.2.2.2
  · right
    obtain ⟨a1, a2, d, hd, hb, a3⟩ := a
    refine ⟨by rw [(H i hi).1]; exact a1, by rw [(H i hi).2]; exact a2, d, hd, by rw [eN]; exact hb, by rw [(H d hd).1]; exact a3⟩
end
def sh_Y (o f s k st va : Nat → Int32) (M : Int32) : Prop :=
  ∃ rk : Nat → Nat, ∀ i, i < 16 → (bt M i = true → sh_ok o f s k st va rk i) ∧ (¬ bt M i = true → st i = 3 ∧ va i = 0)
def sh_cl (o f s st va : Nat → Int32) (M : Int32) (n : Nat) : Prop := ∀ c, c < n → ¬ bt M c = true → ¬ sh_N o f s st va c &&& (M ^^^ (-1)) = 0
theorem sh_ok_up {o f s k st va st' va' : Nat → Int32} {rk rk' : Nat → Nat} {i c : Nat} (W : sh_cf (o i) (f i) (s i)) (hic : i ≠ c)
    (H : ∀ d, d ≠ c → st' d = st d ∧ va' d = va d ∧ rk' d = rk d) (hc : st c = 3) (h : sh_ok o f s k st va rk i) : sh_ok o f s k st' va' rk' i := by
  obtain ⟨h1, h2, h3, h4⟩ := h
  have hn : ∀ d, d < 16 → bt (sh_N o f s st va i) d = true → d ≠ c := fun d hd hb z => (h2 d hd hb).1 (by rw [z]; exact hc)
  obtain ⟨eN, eE⟩ := sh_Nloc (st' := st') (va' := va') W (fun d hd hb => ⟨(H d (hn d hd hb)).1, (H d (hn d hd hb)).2.1⟩)
  obtain ⟨e1, e2, e3⟩ := H i hic
  refine ⟨by rw [e1]; exact h1, fun d hd hb => ?_, ?_, ?_⟩
  · rw [eN] at hb
    obtain ⟨d1, d2, d3⟩ := H d (hn d hd hb)
    rw [d1, d3, e3]
    exact h2 d hd hb
  · rw [eE, e1]; exact h3
  · rw [eE, e2]; exact h4
theorem sh_ok_new {o f s k st va : Nat → Int32} {rk : Nat → Nat} {c B : Nat} (W : sh_cf (o c) (f c) (s c)) (hc : st c = 3)
    (hn : ∀ d, d < 16 → bt (sh_N o f s st va c) d = true → ¬ st d = 3) (hB : ∀ d, d < 16 → rk d < B) :
    sh_ok o f s k (upd st c (sh_E o f s k st va c).1) (upd va c (sh_E o f s k st va c).2) (fun d => if d = c then B else rk d) c := by
  have hn' : ∀ d, d < 16 → bt (sh_N o f s st va c) d = true → d ≠ c := fun d hd hb z => hn d hd hb (by rw [z]; exact hc)
  obtain ⟨eN, eE⟩ := sh_Nloc (st' := upd st c (sh_E o f s k st va c).1) (va' := upd va c (sh_E o f s k st va c).2) W (fun d hd hb => ⟨pk_un (hn' d hd hb), pk_un (hn' d hd hb)⟩)
  refine ⟨?_, fun d hd hb => ?_, ?_, ?_⟩
  · rw [pk_us]
    exact sh_e_p (P := fun x => ¬ x = 3) (by decide) (by decide) (by decide) W hn
  · rw [eN] at hb
    refine ⟨by rw [pk_un (hn' d hd hb)]; exact hn d hd hb, ?_⟩
    show (if d = c then B else rk d) < (if c = c then B else rk c)
    rw [if_neg (hn' d hd hb), if_pos rfl]
    exact hB d hd
  · rw [eE, pk_us]
  · rw [eE, pk_us]
theorem sh_Y_step {o f s k st va : Nat → Int32} {M : Int32} {c : Nat} (W : sh_W o f s) (h : sh_Y o f s k st va M) (hc : c < 16) (hM : ¬ bt M c = true)
    (hn : sh_N o f s st va c &&& (M ^^^ (-1)) = 0) : sh_Y o f s k (upd st c (sh_E o f s k st va c).1) (upd va c (sh_E o f s k st va c).2) (M ||| sh_sb (nI c)) := by
  obtain ⟨rk, g⟩ := h
  obtain ⟨B, hB⟩ := sh_bd rk 16
  rw [sh_sub0] at hn
  have hc3 := ((g c hc).2 hM).1
  refine ⟨fun d => if d = c then B else rk d, fun i hi => ⟨fun hb => ?_, fun hb => ?_⟩⟩
  · by_cases e : i = c
    · rw [e]
      exact sh_ok_new (W c hc) hc3 (fun d hd hb => ((g d hd).1 (hn d hb)).1) hB
    · rw [sh_or_t, sh_sb_t (by omega)] at hb
      have hb' : bt M i = true := by
        rcases hb with z | z
        · exact z
        · exact absurd z e
      exact sh_ok_up (W i hi) e (fun d hd => ⟨pk_un hd, pk_un hd, if_neg hd⟩) hc3 ((g i hi).1 hb')
  · rw [sh_or_t, sh_sb_t (by omega)] at hb
    have e : i ≠ c := fun z => hb (Or.inr z)
    rw [pk_un e, pk_un e]
    exact (g i hi).2 (fun z => hb (Or.inl z))
theorem sh_Y_end {o f s k st va : Nat → Int32} {M : Int32} (W : sh_W o f s) (h : sh_Y o f s k st va M) (hcl : sh_cl o f s st va M 16) : sh_G o f s k st va := by
  obtain ⟨rk, g⟩ := h
  refine ⟨rk, fun i hi => ?_⟩
  by_cases hb : bt M i = true
  · exact Or.inl ((g i hi).1 hb)
  · right
    obtain ⟨h1, h2⟩ := (g i hi).2 hb
    refine ⟨h1, h2, ?_⟩
    have hx := hcl i hi hb
    rw [sh_sub0] at hx
    apply Classical.byContradiction
    intro hno
    apply hx
    intro d hd
    have hd16 := sh_Nb (W i hi) hd
    apply Classical.byContradiction
    intro hM
    exact hno ⟨d, hd16, hd, ((g d hd16).2 hM).1⟩
def sh_P (o f s st va : Nat → Int32) (M : Int32) (r j : Nat) : Prop := r < sh_pc M 16 ∨ (r ≤ sh_pc M 16 ∧ sh_cl o f s st va M j) ∨ sh_cl o f s st va M 16
theorem sh_P_keep {o f s st va : Nat → Int32} {M : Int32} {r j : Nat} (h : sh_P o f s st va M r j) (hj : ¬ bt M j = true → ¬ sh_N o f s st va j &&& (M ^^^ (-1)) = 0) : sh_P o f s st va M r (j + 1) := by
  rcases h with h | ⟨h1, h2⟩ | h
  · exact Or.inl h
  · refine Or.inr (Or.inl ⟨h1, fun c hc => ?_⟩)
    rcases Nat.lt_or_ge c j with z | z
    · exact h2 c z
    · have : c = j := by omega
      rw [this]; exact hj
  · exact Or.inr (Or.inr h)
theorem sh_P_add {o f s st va st' va' : Nat → Int32} {M : Int32} {r j j' : Nat} (h : sh_P o f s st va M r j) (hj : j < 16) (hM : ¬ bt M j = true) (hn : sh_N o f s st va j &&& (M ^^^ (-1)) = 0) :
    sh_P o f s st' va' (M ||| sh_sb (nI j)) r j' := by
  have e := sh_pc_or (M := M) (a := j) (by omega) hM 16
  rw [if_pos hj] at e
  rcases h with h | ⟨h1, h2⟩ | h
  · exact Or.inl (by omega)
  · exact Or.inl (by omega)
  · exact absurd hn (h j hj hM)
theorem sh_P_next {o f s st va : Nat → Int32} {M : Int32} {r : Nat} (h : sh_P o f s st va M r 16) : sh_P o f s st va M (r + 1) 0 := by
  rcases h with h | ⟨h1, h2⟩ | h
  · exact Or.inr (Or.inl ⟨h, fun c hc => absurd hc (Nat.not_lt_zero c)⟩)
  · exact Or.inr (Or.inr h2)
  · exact Or.inr (Or.inr h)
theorem sh_P_end {o f s st va : Nat → Int32} {M : Int32} (h : sh_P o f s st va M 16 0) : sh_cl o f s st va M 16 := by
  have all : 16 ≤ sh_pc M 16 → sh_cl o f s st va M 16 := fun z c hc hM => absurd (sh_pc_all M 16 z c hc) hM
  rcases h with h | ⟨h1, h2⟩ | h
  · exact all (by omega)
  · exact all h1
  · exact h
def sh_ri (nd : Nat → Int32) (b : Int32) : Nat → Int32 → Int32
  | 0 => fun x => x
  | n + 1 => fun x => sh_ri nd b n (if nd (15 - n) &&& (x ||| b) = 0 then x else x ||| sh_sb (nI (15 - n)))
def sh_ro (nd : Nat → Int32) (b : Int32) : Nat → Int32 → Int32
  | 0 => fun x => x
  | n + 1 => fun x => sh_ro nd b n (sh_ri nd b 16 x)
theorem sh_ri_c {nd nd' : Nat → Int32} {b : Int32} (H : ∀ i, i < 16 → nd' i = nd i) : ∀ n, n ≤ 16 → ∀ x, sh_ri nd' b n x = sh_ri nd b n x := by
  intro n
  induction n with
  | zero => intro _ _; rfl
  | succ n ih =>
    intro hn x
    unfold sh_ri
    rw [H (15 - n) (by omega), ih (by omega)]
theorem sh_ro_c {nd nd' : Nat → Int32} {b : Int32} (H : ∀ i, i < 16 → nd' i = nd i) : ∀ n, ∀ x, sh_ro nd' b n x = sh_ro nd b n x := by
  intro n
  induction n with
  | zero => intro _; rfl
  | succ n ih =>
    intro x
    unfold sh_ro
    rw [sh_ri_c H 16 (by omega), ih]
def sh_rc (nd : Nat → Int32) (b x : Int32) (n : Nat) : Prop := ∀ c, c < n → ¬ bt x c = true → nd c &&& (x ||| b) = 0
def sh_Q (nd : Nat → Int32) (b x : Int32) (r j : Nat) : Prop := r < sh_pc x 16 ∨ (r ≤ sh_pc x 16 ∧ sh_rc nd b x j) ∨ sh_rc nd b x 16
theorem sh_ri_Q (nd : Nat → Int32) (b : Int32) (r : Nat) : ∀ n j x, j + n = 16 → sh_Q nd b x r j → sh_Q nd b (sh_ri nd b n x) r 16 := by
  intro n
  induction n with
  | zero => intro j x hj h; have e : j = 16 := by omega
            rw [e] at h; exact h
  | succ n ih =>
    intro j x hj h
    have ej : 15 - n = j := by omega
    unfold sh_ri
    rw [ej]
    apply ih (j + 1) _ (by omega)
    have hkeep : (¬ bt x j = true → nd j &&& (x ||| b) = 0) → sh_Q nd b x r (j + 1) := by
      intro hz
      rcases h with h | ⟨h1, h2⟩ | h
      · exact Or.inl h
      · refine Or.inr (Or.inl ⟨h1, fun c hc => ?_⟩)
        rcases Nat.lt_or_ge c j with z | z
        · exact h2 c z
        · have : c = j := by omega
          rw [this]; exact hz
      · exact Or.inr (Or.inr h)
    by_cases hz : nd j &&& (x ||| b) = 0
    · rw [if_pos hz]; exact hkeep (fun _ => hz)
    · rw [if_neg hz]
      by_cases hb : bt x j = true
      · rw [sh_or_self (by omega) hb]; exact hkeep (fun q => absurd hb q)
      · have e := sh_pc_or (M := x) (a := j) (by omega) hb 16
        rw [if_pos (show j < 16 by omega)] at e
        rcases h with h | ⟨h1, h2⟩ | h
        · exact Or.inl (by omega)
        · exact Or.inl (by omega)
        · exact absurd (h j (by omega) hb) hz
theorem sh_ro_Q (nd : Nat → Int32) (b : Int32) : ∀ n r x, sh_Q nd b x r 0 → sh_Q nd b (sh_ro nd b n x) (r + n) 0 := by
  intro n
  induction n with
  | zero => intro r x h; exact h
  | succ n ih =>
    intro r x h
    unfold sh_ro
    have h' := sh_ri_Q nd b r 16 0 x rfl h
    have h2 : sh_Q nd b (sh_ri nd b 16 x) (r + 1) 0 := by
      rcases h' with h | ⟨h1, h2⟩ | h
      · exact Or.inr (Or.inl ⟨h, fun c hc => absurd hc (Nat.not_lt_zero c)⟩)
      · exact Or.inr (Or.inr h2)
      · exact Or.inr (Or.inr h)
    have h3 := ih (r + 1) _ h2
    have e : r + (n + 1) = r + 1 + n := by omega
    rw [e]; exact h3
theorem sh_ro_cl (nd : Nat → Int32) (b : Int32) : sh_rc nd b (sh_ro nd b 16 0) 16 := by
  have h := sh_ro_Q nd b 16 0 0 (Or.inr (Or.inl ⟨Nat.zero_le _, fun c hc => absurd hc (Nat.not_lt_zero c)⟩))
  have all : 16 ≤ sh_pc (sh_ro nd b 16 0) 16 → sh_rc nd b (sh_ro nd b 16 0) 16 := fun z c hc hM => absurd (sh_pc_all _ 16 z c hc) hM
  rcases h with h | ⟨h1, h2⟩ | h
  · exact all (by omega)
  · exact all (by omega)
  · exact h
end
section
def sh_mk (m st : Nat → Int32) : Nat → Int32 := fun d => if m d = 0 then st d else 3
theorem sh_mk0 {m st : Nat → Int32} {d : Nat} (h : m d = 0) : sh_mk m st d = st d := if_pos h
theorem sh_mk3 {m st : Nat → Int32} {d : Nat} (h : ¬ m d = 0) : sh_mk m st d = 3 := if_neg h
def sh_bad (o f s st va m : Nat → Int32) (c : Nat) : Prop := ∃ e, e < 16 ∧ bt (sh_N o f s (sh_mk m st) va c) e = true ∧ m e = 0 ∧ st e = 3
def sh_wt (o f s st va m : Nat → Int32) (S : Nat → Nat) (dp i : Nat) : Prop :=
  st i = 3 ∧ va i = 0 ∧ ∃ d, d < 16 ∧ bt (sh_N o f s (sh_mk m st) va i) d = true ∧ ((m d = 0 ∧ st d = 3) ∨ ∃ p q, p ≤ q ∧ q < dp ∧ d = S p ∧ sh_bad o f s st va m (S q))
def sh_St (m : Nat → Int32) (S : Nat → Nat) (dp : Nat) : Prop :=
  (∀ i, i < 16 → m i = 0 ∨ m i = 1 ∨ m i = 2) ∧ (∀ d, d < 16 → m d = 2 → ∃ p, p < dp ∧ S p = d) ∧ (∀ p, p < dp → S p < 16 ∧ m (S p) = 2) ∧ (∀ p q, p < dp → q < dp → S p = S q → p = q)
def sh_D (o f s k st va m : Nat → Int32) (S : Nat → Nat) (dp : Nat) : Prop :=
  sh_St m S dp ∧ (∀ i, i < 16 → sh_rg (st i)) ∧ (∀ p, p + 1 < dp → bt (sh_N o f s (sh_mk m st) va (S p)) (S (p + 1)) = true)
  ∧ ∃ rk : Nat → Nat, ∀ i, i < 16 → m i = 0 → sh_ok o f s k (sh_mk m st) va rk i ∨ sh_wt o f s st va m S dp i
def sh_ct (m : Nat → Int32) : Nat → Nat
  | 0 => 0
  | n + 1 => sh_ct m n + (if m n = 1 then 1 else 0)
theorem sh_ct_le (m : Nat → Int32) : ∀ n, sh_ct m n ≤ n := by
  intro n
  induction n with
  | zero => exact Nat.le_refl 0
  | succ n ih =>
    unfold sh_ct
    by_cases h : m n = 1
    · rw [if_pos h]; omega
    · rw [if_neg h]; omega
theorem sh_ct_hi {m : Nat → Int32} {c : Nat} {v : Int32} : ∀ n, n ≤ c → sh_ct (upd m c v) n = sh_ct m n := by
  intro n
  induction n with
  | zero => intro _; rfl
  | succ n ih =>
    intro h
    unfold sh_ct
    rw [ih (by omega), pk_un (by omega)]
theorem sh_ct_dn {m : Nat → Int32} {c : Nat} {v : Int32} (hm : m c = 1) (hv : ¬ v = 1) : ∀ n, c < n → sh_ct (upd m c v) n + 1 = sh_ct m n := by
  intro n
  induction n with
  | zero => intro h; omega
  | succ n ih =>
    intro h
    unfold sh_ct
    by_cases e : n = c
    · rw [e, sh_ct_hi c (Nat.le_refl c), pk_us, if_neg hv, if_pos hm]
    · have := ih (by omega)
      rw [pk_un e]; omega
theorem sh_ct_eq {m : Nat → Int32} {c : Nat} {v : Int32} (hm : ¬ m c = 1) (hv : ¬ v = 1) : ∀ n, sh_ct (upd m c v) n = sh_ct m n := by
  intro n
  induction n with
  | zero => rfl
  | succ n ih =>
    unfold sh_ct
    rw [ih]
    by_cases e : n = c
    · rw [e, pk_us, if_neg hv, if_neg hm]
    · rw [pk_un e]
theorem sh_D_push {o f s k st va m : Nat → Int32} {S : Nat → Nat} {dp x : Nat} (h : sh_D o f s k st va m S dp) (hx : x < 16) (hm : m x = 1)
    (hch : ∀ p, p + 1 = dp → bt (sh_N o f s (sh_mk m st) va (S p)) x = true) : sh_D o f s k st va (upd m x 2) (fun p => if p = dp then x else S p) (dp + 1) := by
  have ew : sh_mk (upd m x 2) st = sh_mk m st := by
    funext d
    by_cases e : d = x
    · rw [e, sh_mk3 (by rw [pk_us]; decide), sh_mk3 (by rw [hm]; decide)]
    · unfold sh_mk; rw [pk_un e]
  obtain ⟨⟨h1, h2, h3, h4⟩, h5, h6, rk, h7⟩ := h
  have eS : ∀ p, p < dp → (fun p => if p = dp then x else S p) p = S p := fun p hp => if_neg (by omega)
  have eD : (fun p => if p = dp then x else S p) dp = x := if_pos rfl
  generalize (fun p => if p = dp then x else S p) = S' at eS eD ⊢
  have hSx : ∀ p, p < dp → S p ≠ x := fun p hp z => by
    have := (h3 p hp).2
    rw [z, hm] at this
    exact absurd this (by decide)
  have h0 : ∀ e, m e = 0 → e ≠ x := fun e he z => by rw [z, hm] at he; exact absurd he (by decide)
  refine ⟨⟨fun i hi => ?_, fun d hd hd2 => ?_, fun p hp => ?_, fun p q hp hq e => ?_⟩, h5, fun p hp => ?_, rk, fun i hi hi0 => ?_⟩
  · by_cases e : i = x
    · rw [e, pk_us]; exact Or.inr (Or.inr rfl)
    · rw [pk_un e]; exact h1 i hi
  · by_cases e : d = x
    · exact ⟨dp, by omega, by rw [eD, e]⟩
    · rw [pk_un e] at hd2
      obtain ⟨p, hp, ep⟩ := h2 d hd hd2
      exact ⟨p, by omega, by rw [eS p hp]; exact ep⟩
  · rcases Nat.lt_or_ge p dp with z | z
    · rw [eS p z, pk_un (hSx p z)]; exact h3 p z
    · have e : p = dp := by omega
      rw [e, eD, pk_us]; exact ⟨hx, rfl⟩
  · rcases Nat.lt_or_ge p dp with z | z
    · rcases Nat.lt_or_ge q dp with y | y
      · rw [eS p z, eS q y] at e; exact h4 p q z y e
      · have eq : q = dp := by omega
        rw [eS p z, eq, eD] at e
        exact absurd e (hSx p z)
    · have ep : p = dp := by omega
      rcases Nat.lt_or_ge q dp with y | y
      · rw [eS q y, ep, eD] at e
        exact absurd e.symm (hSx q y)
      · omega
  · rw [ew]
    rcases Nat.lt_or_ge (p + 1) dp with z | z
    · rw [eS p (by omega), eS (p + 1) z]; exact h6 p z
    · have e : p + 1 = dp := by omega
      rw [eS p (by omega), e, eD]; exact hch p e
  · have hix : i ≠ x := fun z => by rw [z, pk_us] at hi0; exact absurd hi0 (by decide)
    rw [pk_un hix] at hi0
    rcases h7 i hi hi0 with g | g
    · left; rw [ew]; exact g
    · right
      obtain ⟨g1, g2, d, hd, hb, g3⟩ := g
      refine ⟨g1, g2, d, hd, by rw [ew]; exact hb, ?_⟩
      rcases g3 with ⟨g3, g4⟩ | ⟨p, q, hpq, hq, ed, e, he, hbe, e1, e2⟩
      · exact Or.inl ⟨by rw [pk_un (h0 d g3)]; exact g3, g4⟩
      · refine Or.inr ⟨p, q, hpq, by omega, by rw [eS p (by omega)]; exact ed, e, he, ?_, by rw [pk_un (h0 e e1)]; exact e1, e2⟩
        rw [ew, eS q hq]; exact hbe
theorem sh_D_pop {o f s k st va m : Nat → Int32} {S : Nat → Nat} {dp : Nat} {e v : Int32} (W : sh_W o f s) (h : sh_D o f s k st va m S (dp + 1)) (hr : sh_rg e)
    (hbad : sh_bad o f s st va m (S dp) → e = 3)
    (hnew : ∀ (rk : Nat → Nat) (B : Nat), (∀ d, d < 16 → rk d < B) → sh_ok o f s k (upd (sh_mk m st) (S dp) e) (upd va (S dp) v) (fun d => if d = S dp then B else rk d) (S dp)
      ∨ (e = 3 ∧ v = 0 ∧ ∃ d, d < 16 ∧ bt (sh_N o f s (sh_mk m st) va (S dp)) d = true ∧ (m d = 2 ∨ (m d = 0 ∧ st d = 3)))) :
    sh_D o f s k (upd st (S dp) e) (upd va (S dp) v) (upd m (S dp) 0) S dp := by
  obtain ⟨⟨h1, h2, h3, h4⟩, h5, h6, rk, h7⟩ := h
  obtain ⟨hc, hmc⟩ := h3 dp (by omega)
  have hS : ∀ p, p < dp → S p ≠ S dp := fun p hp z => by have := h4 p dp (by omega) (by omega) z; omega
  have hch : 0 < dp → bt (sh_N o f s (sh_mk m st) va (S (dp - 1))) (S dp) = true := fun hp => by
    have := h6 (dp - 1) (by omega)
    have e1 : dp - 1 + 1 = dp := by omega
    rw [e1] at this
    exact this
  generalize ec : S dp = c at *
  have ew : sh_mk (upd m c 0) (upd st c e) = upd (sh_mk m st) c e := by
    funext d
    by_cases z : d = c
    · rw [z, sh_mk0 pk_us, pk_us, pk_us]
    · rw [pk_un z]; unfold sh_mk; rw [pk_un z, pk_un z]
  have hw3 : sh_mk m st c = 3 := sh_mk3 (by rw [hmc]; decide)
  have h0 : ∀ d, m d = 0 → d ≠ c := fun d hd z => by rw [z, hmc] at hd; exact absurd hd (by decide)
  have hmo : ∀ i d, i < 16 → bt (sh_N o f s (sh_mk m st) va i) d = true → bt (sh_N o f s (sh_mk (upd m c 0) (upd st c e)) (upd va c v) i) d = true := by
    intro i d hi hd
    rw [ew]
    refine sh_Nmono (W i hi) (fun d' _ h3' => ?_) hd
    have hne : d' ≠ c := fun z => h3' (by rw [z]; exact hw3)
    exact ⟨pk_un hne, pk_un hne⟩
  have hset : ∀ d, m d = 0 → st d = 3 → upd m c 0 d = 0 ∧ upd st c e d = 3 := fun d a b => by
    rw [pk_un (h0 d a), pk_un (h0 d a)]; exact ⟨a, b⟩
  have hcc : e = 3 → upd m c 0 c = 0 ∧ upd st c e c = 3 := fun z => ⟨pk_us, by rw [pk_us]; exact z⟩
  have hdn : e = 3 → ∀ p, p < dp → ∃ p' q, p' ≤ q ∧ q < dp ∧ S p = S p' ∧ sh_bad o f s (upd st c e) (upd va c v) (upd m c 0) (S q) := fun z p hp =>
    ⟨p, dp - 1, by omega, by omega, rfl, c, hc, hmo _ _ (h3 (dp - 1) (by omega)).1 (hch (by omega)), (hcc z).1, (hcc z).2⟩
  obtain ⟨B, hB⟩ := sh_bd rk 16
  refine ⟨⟨fun i hi => ?_, fun d hd hd2 => ?_, fun p hp => ?_, fun p q hp hq z => h4 p q (by omega) (by omega) z⟩, fun i hi => ?_, fun p hp => ?_, fun d => if d = c then B else rk d, fun i hi hi0 => ?_⟩
  · by_cases z : i = c
    · rw [z, pk_us]; exact Or.inl rfl
    · rw [pk_un z]; exact h1 i hi
  · have z : d ≠ c := fun z => by rw [z, pk_us] at hd2; exact absurd hd2 (by decide)
    rw [pk_un z] at hd2
    obtain ⟨p, hp, ep⟩ := h2 d hd hd2
    have hne : p ≠ dp := fun y => z (by rw [← ep, y, ec])
    exact ⟨p, by omega, ep⟩
  · rw [pk_un (hS p hp)]; exact h3 p (by omega)
  · by_cases z : i = c
    · rw [z, pk_us]; exact hr
    · rw [pk_un z]; exact h5 i hi
  · exact hmo _ _ (h3 p (by omega)).1 (h6 p (by omega))
  · by_cases z : i = c
    · rcases hnew rk B hB with g | ⟨g1, g2, d, hd, hb, g3⟩
      · left; rw [z, ew]; exact g
      · right
        rw [z]
        refine ⟨(hcc g1).2, by rw [pk_us]; exact g2, d, hd, hmo c d hc hb, ?_⟩
        rcases g3 with g3 | ⟨g3, g4⟩
        · obtain ⟨p, hp, ep⟩ := h2 d hd g3
          rcases Nat.lt_or_ge p dp with y | y
          · right
            rw [← ep]; exact hdn g1 p y
          · have y' : p = dp := by omega
            have : d = c := by rw [← ep, y', ec]
            left; rw [this]; exact hcc g1
        · exact Or.inl (hset d g3 g4)
    · rw [pk_un z] at hi0
      rcases h7 i hi hi0 with g | ⟨g1, g2, d, hd, hb, g3⟩
      · left
        rw [ew]
        exact sh_ok_up (W i hi) z (fun d hd => ⟨pk_un hd, pk_un hd, if_neg hd⟩) hw3 g
      · right
        refine ⟨by rw [pk_un z]; exact g1, by rw [pk_un z]; exact g2, d, hd, hmo i d hi hb, ?_⟩
        rcases g3 with ⟨g3, g4⟩ | ⟨p, q, hpq, hq, ed, e', he, hbe, e1, e2⟩
        · exact Or.inl (hset d g3 g4)
        · rcases Nat.lt_or_ge q dp with y | y
          · exact Or.inr ⟨p, q, hpq, y, ed, e', he, hmo _ _ (h3 q (by omega)).1 hbe, (hset e' e1 e2).1, (hset e' e1 e2).2⟩
          · have y' : q = dp := by omega
            rw [y', ec] at hbe
            have e3 : e = 3 := hbad ⟨e', he, hbe, e1, e2⟩
            rcases Nat.lt_or_ge p dp with x | x
            · right; rw [ed]; exact hdn e3 p x
            · have x' : p = dp := by omega
              have : d = c := by rw [ed, x', ec]
              left; rw [this]; exact hcc e3
theorem sh_D_pop3 {o f s k st va m : Nat → Int32} {S : Nat → Nat} {dp : Nat} (W : sh_W o f s) (h : sh_D o f s k st va m S (dp + 1))
    (hB : ∃ d, d < 16 ∧ bt (sh_N o f s (sh_mk m st) va (S dp)) d = true ∧ (m d = 2 ∨ (m d = 0 ∧ st d = 3))) :
    sh_D o f s k (upd st (S dp) 3) (upd va (S dp) 0) (upd m (S dp) 0) S dp :=
  sh_D_pop W h (Or.inr (Or.inr (Or.inr rfl))) (fun _ => rfl) (fun _ _ _ => Or.inr ⟨rfl, rfl, hB⟩)
theorem sh_D_popn {o f s k st va m : Nat → Int32} {S : Nat → Nat} {dp : Nat} (W : sh_W o f s) (h : sh_D o f s k st va m S (dp + 1))
    (hB : ∀ d, d < 16 → bt (sh_N o f s (sh_mk m st) va (S dp)) d = true → m d = 0 ∧ ¬ st d = 3) :
    sh_D o f s k (upd st (S dp) (sh_E o f s k (sh_mk m st) va (S dp)).1) (upd va (S dp) (sh_E o f s k (sh_mk m st) va (S dp)).2) (upd m (S dp) 0) S dp := by
  obtain ⟨hc, hmc⟩ := h.1.2.2.1 dp (by omega)
  have hrg := h.2.1
  refine sh_D_pop W h (sh_e_p (P := sh_rg) (Or.inl rfl) (Or.inr (Or.inl rfl)) (Or.inr (Or.inr (Or.inl rfl))) (W _ hc) (fun d hd hb => ?_)) (fun hb => ?_) (fun rk B hB' => Or.inl ?_)
  · rw [sh_mk0 (hB d hd hb).1]; exact hrg d hd
  · obtain ⟨e, he, hbe, -, h3⟩ := hb
    exact absurd h3 (hB e he hbe).2
  · refine sh_ok_new (W _ hc) (sh_mk3 (by rw [hmc]; decide)) (fun d hd hb => ?_) hB'
    rw [sh_mk0 (hB d hd hb).1]; exact (hB d hd hb).2
theorem sh_D_start {o f s k o' f' s' k' st va m : Nat → Int32} {S : Nat → Nat} {c : Nat} {R : Int32} (W : sh_W o f s) (G : sh_G o f s k st va)
    (hn : ∀ i, i ≠ c → o' i = o i ∧ f' i = f i ∧ s' i = s i ∧ k' i = k i) (hR : sh_rc (sh_N o f s st va) (sh_sb (nI c)) R 16) (hc : c < 16)
    (hm1 : ∀ i, i < 16 → (bt R i = true ∨ i = c) → m i = 1) (hm0 : ∀ i, i < 16 → ¬ (bt R i = true ∨ i = c) → m i = 0) (hr : ∀ i, i < 16 → sh_rg (st i)) :
    sh_D o' f' s' k' st va m S 0 := by
  obtain ⟨rk, g⟩ := G
  have hcase : ∀ i, i < 16 → m i = 0 ∨ m i = 1 := fun i hi => by
    by_cases z : bt R i = true ∨ i = c
    · exact Or.inr (hm1 i hi z)
    · exact Or.inl (hm0 i hi z)
  refine ⟨⟨fun i hi => ?_, fun d hd hd2 => ?_, fun p hp => absurd hp (Nat.not_lt_zero p), fun p q hp => absurd hp (Nat.not_lt_zero p)⟩, hr, fun p hp => absurd hp (Nat.not_lt_zero _), rk, fun i hi hi0 => ?_⟩
  · rcases hcase i hi with z | z
    · exact Or.inl z
    · exact Or.inr (Or.inl z)
  · rcases hcase d hd with z | z
    · rw [z] at hd2; exact absurd hd2 (by decide)
    · rw [z] at hd2; exact absurd hd2 (by decide)
  · have hi1 : ¬ (bt R i = true ∨ i = c) := fun z => by
      have := hm1 i hi z
      rw [this] at hi0
      exact absurd hi0 (by decide)
    have hic : i ≠ c := fun z => hi1 (Or.inr z)
    obtain ⟨n1, n2, n3, n4⟩ := hn i hic
    have hz := hR i hi (fun z => hi1 (Or.inl z))
    rw [sh_and0] at hz
    have hd0 : ∀ d, d < 16 → bt (sh_N o f s st va i) d = true → m d = 0 := fun d hd hb => by
      apply hm0 d hd
      intro z
      refine hz d hb (sh_or_t.mpr ?_)
      rcases z with z | z
      · exact Or.inl z
      · exact Or.inr ((sh_sb_t (by omega)).mpr z)
    obtain ⟨eN, eE⟩ := sh_Nloc (st' := sh_mk m st) (va' := va) (W i hi) (fun d hd hb => ⟨sh_mk0 (hd0 d hd hb), rfl⟩)
    have eN' : sh_N o' f' s' (sh_mk m st) va i = sh_N o f s st va i := by
      rw [← eN]; unfold sh_N; rw [n1, n2, n3]
    have eE' : sh_E o' f' s' k' (sh_mk m st) va i = sh_E o f s k st va i := by
      rw [← eE]; unfold sh_E; rw [n1, n2, n3, n4]
    rcases g i hi with ⟨a1, a2, a3, a4⟩ | ⟨a1, a2, d, hd, hb, a3⟩
    · left
      refine ⟨by rw [sh_mk0 hi0]; exact a1, fun d hd hb => ?_, ?_, ?_⟩
      · rw [eN'] at hb
        rw [sh_mk0 (hd0 d hd hb)]
        exact a2 d hd hb
      · rw [eE', sh_mk0 hi0]; exact a3
      · rw [eE']; exact a4
    · right
      exact ⟨a1, a2, d, hd, by rw [eN']; exact hb, Or.inl ⟨hd0 d hd hb, a3⟩⟩
theorem sh_D_end {o f s k st va m : Nat → Int32} {S : Nat → Nat} (W : sh_W o f s) (h : sh_D o f s k st va m S 0) (hm : ∀ i, i < 16 → m i = 0) : sh_G o f s k st va := by
  obtain ⟨-, -, -, rk, h7⟩ := h
  apply sh_Gc (st := sh_mk m st) (va := va) W (fun d hd => ⟨(sh_mk0 (hm d hd)).symm, rfl⟩)
  refine ⟨rk, fun i hi => ?_⟩
  rcases h7 i hi (hm i hi) with g | ⟨g1, g2, d, hd, hb, g3⟩
  · exact Or.inl g
  · right
    refine ⟨by rw [sh_mk0 (hm i hi)]; exact g1, g2, d, hd, hb, ?_⟩
    rcases g3 with g3 | ⟨p, q, _, hq, _⟩
    · rw [sh_mk0 g3.1]; exact g3.2
    · exact absurd hq (Nat.not_lt_zero q)
end
section
theorem xs_span {post : Int32 → Prop} {a b : Int32} (h : post (sh_sp a b)) : wpX_span post a b := by
  unfold sh_sp at h
  by_cases c : b ≤ a
  · rw [if_pos c] at h; exact br_t c (br_t c h)
  · rw [if_neg c] at h; exact br_f c (br_f c h)
theorem xs_two1 {post : Int32 → Prop} {o : Int32} (h : sh_two o ∨ o = 5) (hp : post 1) : wpX_takesTwo post o := by
  rcases h with (rfl | rfl | rfl | rfl | rfl) | rfl
  · exact br_f (by decide) (br_t (by decide) hp)
  · exact br_f (by decide) (br_t (by decide) hp)
  · exact br_f (by decide) (br_t (by decide) hp)
  · exact br_f (by decide) (br_t (by decide) hp)
  · exact br_f (by decide) (br_f (by decide) (br_f (by decide) (br_t rfl hp)))
  · exact br_f (by decide) (br_f (by decide) (br_t rfl hp))
theorem xs_two0 {post : Int32 → Prop} {o : Int32} (h : o = 4 ∨ o = 6 ∨ o = 8) (hp : post 0) : wpX_takesTwo post o := by
  rcases h with rfl | rfl | rfl
  · exact br_f (by decide) (br_f (by decide) (br_f (by decide) (br_f (by decide) hp)))
  · exact br_f (by decide) (br_f (by decide) (br_f (by decide) (br_f (by decide) hp)))
  · exact br_f (by decide) (br_f (by decide) (br_f (by decide) (br_f (by decide) hp)))
theorem xs_is1 {post : Int32 → Prop} {c : Nat} (hc : c < 16) (hp : post 1) : wpX_isCell post (nI c) :=
  br_f (nI_pos (by omega)) (br_f (nI_ge (b := 16) hc (by decide)) hp)
theorem xs_is0 {post : Int32 → Prop} {p : Int32} (h : p < 0 ∨ nI 16 ≤ p) (hp : post 0) : wpX_isCell post p := by
  by_cases z : p < 0
  · exact br_t z hp
  · rcases h with y | y
    · exact absurd y z
    · exact br_f z (br_t y hp)
section
variable {ch : Int32} {o f s k st va m sk os ov : Nat → Int32}
theorem xs_targetOf {post : Int32 → Prop} {c x : Nat} (hc : c < 16) (hx : x < 16) (ef : f c = nI x) (h : post (sh_t (f c) (s c) (sh_mk m st) va)) :
    wpX_targetOf post (ch, o, f, s, k, st, va, m, sk, os, ov) (nI c) := by
  have hi : vp_in (nI c) 16 := vp_in_nI hc (by decide)
  have hix : vp_in (nI x) 16 := vp_in_nI hx (by decide)
  have hcl : (nI c).toNatClampNeg = c := nI_clamp (by omega)
  have hxl : (nI x).toNatClampNeg = x := nI_clamp (by omega)
  rw [ef, sh_t_x hx] at h
  unfold wpX_targetOf
  dsimp only
  rw [hcl, ef]
  refine ⟨hi, nm_e ⟨hix, ?_⟩⟩
  rw [hxl]
  by_cases hm : m x = 0
  · rw [sh_mk0 hm] at h
    by_cases hs : st x = 0
    · rw [if_pos hs] at h
      refine br_t hm ⟨hix, br_t hs ⟨hix, hi, nm_e ?_⟩⟩
      unfold sh_tg at h
      by_cases h1 : (va x).toInt64 + (s c).toInt64 < 0
      · rw [if_pos h1] at h; exact br_t h1 h
      · rw [if_neg h1] at h
        by_cases h2 : 16 ≤ (va x).toInt64 + (s c).toInt64
        · rw [if_pos h2] at h; exact br_f h1 (br_t h2 h)
        · rw [if_neg h2] at h; exact br_f h1 (br_f h2 h)
    · rw [if_neg hs] at h
      exact br_t hm ⟨hix, br_f hs h⟩
  · rw [sh_mk3 hm, if_neg (by decide)] at h
    exact br_f hm h
theorem xs_needsOf {post : Int32 → Prop} {c : Nat} (hc : c < 16) (W : sh_cf (o c) (f c) (s c)) (h : post (sh_N o f s (sh_mk m st) va c)) :
    wpX_needsOf post (ch, o, f, s, k, st, va, m, sk, os, ov) (nI c) := by
  have hi : vp_in (nI c) 16 := vp_in_nI hc (by decide)
  have hcl : (nI c).toNatClampNeg = c := nI_clamp (by omega)
  unfold sh_N at h
  unfold wpX_needsOf
  dsimp only
  rw [hcl]
  refine ⟨hi, nm_e ⟨hi, nm_e ?_⟩⟩
  rcases W with ⟨eo, -, -⟩ | ⟨eo, -, -⟩ | ⟨eo, -, -⟩ | ⟨eo, ⟨x, hx, ef⟩, -, -⟩ | ⟨eo, -, -⟩ | ⟨h2, -, -⟩
  · rw [eo] at h ⊢
    rw [sh_n_m1] at h
    exact br_t (by decide) h
  · rw [eo] at h ⊢
    rw [sh_n_8] at h
    exact br_f (by decide) (br_t rfl h)
  · rw [eo] at h ⊢
    rw [sh_n_6] at h
    exact br_f (by decide) (br_f (by decide) (br_f (by decide) (xs_two0 (Or.inr (Or.inl rfl)) (br_t rfl (br_f (by decide) (br_t (by decide) h))))))
  · rw [eo] at h ⊢
    rw [sh_n_4] at h
    refine br_f (by decide) (br_f (by decide) (br_f (by decide) (xs_two0 (Or.inl rfl) (br_t rfl (br_t rfl (xs_targetOf hc hx ef ?_))))))
    unfold wX_needsOf_76
    by_cases ht : sh_t (f c) (s c) (sh_mk m st) va < 0
    · rw [if_pos ht] at h; exact br_t ht h
    · rw [if_neg ht] at h; exact br_f ht h
  · rw [eo] at h ⊢
    rw [sh_n_5] at h
    exact br_f (by decide) (br_f (by decide) (br_t rfl ⟨hi, xs_span h⟩))
  · rw [sh_n_2 h2] at h
    obtain ⟨n1, n2, n3, n4, n5⟩ := sh_two_n h2
    exact br_f n1 (br_f n2 (br_f n3 (xs_two1 (Or.inl h2) (br_f (by decide) ⟨hi, h⟩))))
theorem xs_reach_13 (W : sh_W o f s) {post : Int32 → Prop} {J4 : Int32 → Int32 → Prop} {x1 x3 : Int32} : ∀ (n j : Nat) (x : Int32), j + n = 16 →
    J4 (sh_ri (sh_N o f s (sh_mk m st) va) (sh_sb x1) n x) (x3 + 1) → wX_reach_13 post J4 x1 x3 ch o f s k st va m sk os ov (n + 1) x (nI j) := by
  intro n
  induction n with
  | zero =>
    intro j x hj h
    exact br_t (nI_le (a := 16) (by omega) (by omega)) (nm_e h)
  | succ n ih =>
    intro j x hj h
    have ej : 15 - n = j := by omega
    unfold sh_ri at h
    rw [ej] at h
    refine br_f (nI_ge (b := 16) (by omega) (by decide)) (xs_needsOf (by omega) (W j (by omega)) ?_)
    by_cases hz : sh_N o f s (sh_mk m st) va j &&& (x ||| sh_sb x1) = 0
    · rw [if_pos hz] at h
      exact br_t hz (nm_r (nI_1 j) (ih (j + 1) x (by omega) h))
    · rw [if_neg hz] at h
      exact br_f hz (nm_e (nm_r (nI_1 j) (ih (j + 1) _ (by omega) h)))
theorem xs_reach_4 (W : sh_W o f s) {post : Int32 → Prop} {x1 : Int32} : ∀ (n r : Nat) (x : Int32), r + n = 16 →
    post (sh_ro (sh_N o f s (sh_mk m st) va) (sh_sb x1) n x) → wX_reach_4 post x1 ch o f s k st va m sk os ov (n + 1) x (nI r) := by
  intro n
  induction n with
  | zero =>
    intro r x hr h
    exact br_t (nI_le (a := 16) (by omega) (by omega)) h
  | succ n ih =>
    intro r x hr h
    unfold sh_ro at h
    refine br_f (nI_ge (b := 16) (by omega) (by decide)) ⟨17, xs_reach_13 W 16 0 x rfl ?_⟩
    rw [nI_1]
    exact ih (r + 1) _ (by omega) h
theorem xs_reach (W : sh_W o f s) {post : Int32 → Prop} {p : Int32} (h : post (sh_ro (sh_N o f s (sh_mk m st) va) (sh_sb p) 16 0)) :
    wpX_reach post (ch, o, f, s, k, st, va, m, sk, os, ov) p := ⟨17, xs_reach_4 W 16 0 0 rfl h⟩
theorem xs_stale_8 {post : Int32 → Prop} {q : Int32} (H0 : (∀ d, d < 16 → bt q d = true → ¬ m d = 1) → post (-1)) (H1 : ∀ d, d < 16 → bt q d = true → m d = 1 → post (nI d)) :
    ∀ (n j : Nat), j + n = 16 → (∀ d, d < j → bt q d = true → ¬ m d = 1) → wX_staleNeed_8 post q ch o f s k st va m sk os ov (n + 1) (nI j) := by
  intro n
  induction n with
  | zero =>
    intro j hj h
    have e : j = 16 := by omega
    rw [e] at h ⊢
    exact br_t (nI_le (a := 16) (by omega) (by omega)) (H0 h)
  | succ n ih =>
    intro j hj h
    have hj16 : j < 16 := by omega
    have ecl : (nI j).toNatClampNeg = j := nI_clamp (by omega)
    have nx : ¬ (bt q j = true ∧ m j = 1) → wX_staleNeed_8 post q ch o f s k st va m sk os ov (n + 1) (nI (j + 1)) := fun hz =>
      ih (j + 1) (by omega) (fun d hd hb => by
        rcases Nat.lt_or_ge d j with z | z
        · exact h d z hb
        · have e : d = j := by omega
          rw [e] at hb ⊢
          exact fun y => hz ⟨hb, y⟩)
    refine br_f (nI_ge (b := 16) hj16 (by decide)) ?_
    by_cases hb : bt q j = true
    · refine br_f (sh_t0 hj16 hb) ⟨vp_in_nI hj16 (by decide), ?_⟩
      by_cases hm : m j = 1
      · exact br_t (by rw [ecl]; exact hm) (H1 j hj16 hb hm)
      · exact br_f (by rw [ecl]; exact hm) (nm_r (nI_1 j) (nx (fun z => hm z.2)))
    · exact br_t (sh_f0 hj16 hb) (nm_r (nI_1 j) (nx (fun z => hb z.1)))
theorem xs_staleNeed {post : Int32 → Prop} {c : Nat} (hc : c < 16) (W : sh_cf (o c) (f c) (s c))
    (H0 : (∀ d, d < 16 → bt (sh_N o f s (sh_mk m st) va c) d = true → ¬ m d = 1) → post (-1)) (H1 : ∀ d, d < 16 → bt (sh_N o f s (sh_mk m st) va c) d = true → m d = 1 → post (nI d)) :
    wpX_staleNeed post (ch, o, f, s, k, st, va, m, sk, os, ov) (nI c) := by
  unfold wpX_staleNeed
  dsimp only
  exact xs_needsOf hc W ⟨17, xs_stale_8 H0 H1 16 0 rfl (fun d hd => absurd hd (Nat.not_lt_zero d))⟩
theorem xs_fe_31 {post : Int32 → Prop} {q : Int32} : ∀ (n j : Nat), j + n = 16 → post (sh_fe st q n) → wX_firstError_31 post q ch o f s k st va m sk os ov (n + 1) (nI j) := by
  intro n
  induction n with
  | zero =>
    intro j hj h
    exact br_t (nI_le (a := 16) (by omega) (by omega)) h
  | succ n ih =>
    intro j hj h
    have hj16 : j < 16 := by omega
    have ecl : (nI j).toNatClampNeg = j := nI_clamp (by omega)
    have ej : 15 - n = j := by omega
    have hin : vp_in (nI j) 16 := vp_in_nI hj16 (by decide)
    unfold sh_fe at h
    rw [ej] at h
    refine br_f (nI_ge (b := 16) hj16 (by decide)) ?_
    by_cases hb : bt q j = true
    · by_cases hs : st j = 0
      · rw [if_neg (fun z => z.2 hs)] at h
        exact br_f (sh_t0 hj16 hb) ⟨hin, br_t (by rw [ecl]; exact hs) (nm_r (nI_1 j) (ih (j + 1) (by omega) h))⟩
      · rw [if_pos ⟨hb, hs⟩] at h
        exact br_f (sh_t0 hj16 hb) ⟨hin, br_f (by rw [ecl]; exact hs) ⟨hin, by rw [ecl]; exact h⟩⟩
    · rw [if_neg (fun z => hb z.1)] at h
      exact br_t (sh_f0 hj16 hb) (nm_r (nI_1 j) (ih (j + 1) (by omega) h))
theorem xs_sm_21 {post : Int32 → Prop} {q : Int32} : ∀ (n j : Nat) (x : Int32), j + n = 16 → post (sh_sm va q n x) → wX_total_21 post q ch o f s k st va m sk os ov (n + 1) x (nI j) := by
  intro n
  induction n with
  | zero =>
    intro j x hj h
    exact br_t (nI_le (a := 16) (by omega) (by omega)) h
  | succ n ih =>
    intro j x hj h
    have hj16 : j < 16 := by omega
    have ecl : (nI j).toNatClampNeg = j := nI_clamp (by omega)
    have ej : 15 - n = j := by omega
    have hin : vp_in (nI j) 16 := vp_in_nI hj16 (by decide)
    unfold sh_sm at h
    rw [ej] at h
    refine br_f (nI_ge (b := 16) hj16 (by decide)) ?_
    by_cases hb : bt q j = true
    · rw [if_pos hb] at h
      exact br_f (sh_t0 hj16 hb) ⟨hin, nm_r (e' := x + va j) (by rw [ecl]) (nm_r (nI_1 j) (ih (j + 1) _ (by omega) h))⟩
    · rw [if_neg hb] at h
      exact br_t (sh_f0 hj16 hb) (nm_r (nI_1 j) (ih (j + 1) _ (by omega) h))
theorem xs_fe5 {post : Int32 → Prop} {c : Nat} (hc : c < 16) (eo : o c = 5) (h : post (sh_fe st (sh_sp (f c) (s c)) 16)) :
    wpX_firstError post (ch, o, f, s, k, st, va, m, sk, os, ov) (nI c) := by
  have hi : vp_in (nI c) 16 := vp_in_nI hc (by decide)
  have hcl : (nI c).toNatClampNeg = c := nI_clamp (by omega)
  unfold wpX_firstError
  dsimp only
  rw [hcl]
  exact ⟨hi, nm_e (br_t eo ⟨hi, hi, xs_span ⟨17, xs_fe_31 16 0 rfl h⟩⟩)⟩
theorem xs_fe2 {post : Int32 → Prop} {c x y : Nat} (hc : c < 16) (hx : x < 16) (hy : y < 16) (ef : f c = nI x) (es : s c = nI y) (h2 : sh_two (o c))
    (h : post (if st x = 0 then st y else st x)) : wpX_firstError post (ch, o, f, s, k, st, va, m, sk, os, ov) (nI c) := by
  have hi : vp_in (nI c) 16 := vp_in_nI hc (by decide)
  have hix : vp_in (nI x) 16 := vp_in_nI hx (by decide)
  have hiy : vp_in (nI y) 16 := vp_in_nI hy (by decide)
  have hcl : (nI c).toNatClampNeg = c := nI_clamp (by omega)
  have hxl : (nI x).toNatClampNeg = x := nI_clamp (by omega)
  have hyl : (nI y).toNatClampNeg = y := nI_clamp (by omega)
  unfold wpX_firstError
  dsimp only
  rw [hcl, ef, es, hxl, hyl]
  refine ⟨hi, nm_e (br_f (sh_two_n h2).2.2.1 ⟨hi, hix, nm_e ?_⟩)⟩
  by_cases h0 : st x = 0
  · rw [if_pos h0] at h
    exact br_t h0 (xs_two1 (Or.inl h2) (br_f (by decide) ⟨hi, hiy, h⟩))
  · rw [if_neg h0] at h
    exact br_f h0 h
theorem xs_fe4 {post : Int32 → Prop} {c x : Nat} (hc : c < 16) (hx : x < 16) (ef : f c = nI x) (eo : o c = 4)
    (h : post (st x)) : wpX_firstError post (ch, o, f, s, k, st, va, m, sk, os, ov) (nI c) := by
  have hi : vp_in (nI c) 16 := vp_in_nI hc (by decide)
  have hix : vp_in (nI x) 16 := vp_in_nI hx (by decide)
  have hcl : (nI c).toNatClampNeg = c := nI_clamp (by omega)
  have hxl : (nI x).toNatClampNeg = x := nI_clamp (by omega)
  unfold wpX_firstError
  dsimp only
  rw [hcl, ef, eo, hxl]
  refine ⟨hi, nm_e (br_f (by decide) ⟨hi, hix, nm_e ?_⟩)⟩
  by_cases h0 : st x = 0
  · exact br_t h0 (xs_two0 (Or.inl rfl) (br_t rfl h))
  · exact br_f h0 h
theorem xs_result2 {post : Int32 → Prop} {c x y : Nat} {p : Int32} (hc : c < 16) (hx : x < 16) (hy : y < 16) (ef : f c = nI x) (es : s c = nI y) (h2 : sh_two p)
    (h3 : ¬ (p = 3 ∧ va y = 0)) (h : post (sh_ar p (va x) (va y))) : wpX_result post (ch, o, f, s, k, st, va, m, sk, os, ov) (nI c) p := by
  have hi : vp_in (nI c) 16 := vp_in_nI hc (by decide)
  have hix : vp_in (nI x) 16 := vp_in_nI hx (by decide)
  have hiy : vp_in (nI y) 16 := vp_in_nI hy (by decide)
  have hcl : (nI c).toNatClampNeg = c := nI_clamp (by omega)
  have hxl : (nI x).toNatClampNeg = x := nI_clamp (by omega)
  have hyl : (nI y).toNatClampNeg = y := nI_clamp (by omega)
  unfold wpX_result
  dsimp only
  rw [hcl, ef, es, hxl, hyl]
  refine ⟨hi, hix, nm_e ⟨hi, hiy, nm_e ?_⟩⟩
  unfold sh_ar at h
  rcases h2 with rfl | rfl | rfl | rfl | rfl
  · rw [if_pos rfl] at h
    exact br_t rfl h
  · rw [if_neg (by decide), if_pos rfl] at h
    exact br_f (by decide) (br_t rfl h)
  · rw [if_neg (by decide), if_neg (by decide), if_pos rfl] at h
    exact br_f (by decide) (br_f (by decide) (br_t rfl h))
  · rw [if_neg (by decide), if_neg (by decide), if_neg (by decide), if_pos rfl] at h
    have hy0 : ¬ va y = 0 := fun z => h3 ⟨rfl, z⟩
    exact br_f (by decide) (br_f (by decide) (br_f (by decide) (br_t rfl (br_f hy0 ⟨hy0, h⟩))))
  · rw [if_neg (by decide), if_neg (by decide), if_neg (by decide), if_neg (by decide)] at h
    refine br_f (by decide) (br_f (by decide) (br_f (by decide) (br_f (by decide) (br_t rfl ?_))))
    by_cases h0 : va x = 0
    · rw [if_pos h0] at h; exact br_t h0 h
    · rw [if_neg h0] at h; exact br_f h0 h
theorem xs_result5 {post : Int32 → Prop} {c x y : Nat} (hc : c < 16) (hx : x < 16) (hy : y < 16) (ef : f c = nI x) (es : s c = nI y)
    (h : post (sh_sm va (sh_sp (f c) (s c)) 16 0)) : wpX_result post (ch, o, f, s, k, st, va, m, sk, os, ov) (nI c) 5 := by
  have hi : vp_in (nI c) 16 := vp_in_nI hc (by decide)
  have hix : vp_in (f c) 16 := by rw [ef]; exact vp_in_nI hx (by decide)
  have hiy : vp_in (s c) 16 := by rw [es]; exact vp_in_nI hy (by decide)
  have hcl : (nI c).toNatClampNeg = c := nI_clamp (by omega)
  unfold wpX_result wpX_total
  dsimp only
  rw [hcl]
  exact ⟨hi, hix, nm_e ⟨hi, hiy, nm_e (br_f (by decide) (br_f (by decide) (br_f (by decide) (br_f (by decide) (br_f (by decide) ⟨hi, hi, xs_span ⟨17, xs_sm_21 16 0 0 rfl h⟩⟩)))))⟩⟩
end
end
section
section
variable {ch : Int32} {o f s k st va m sk os ov : Nat → Int32}
theorem xs_c165 {post : SX → Prop} {c : Nat} {e : Int32} (hc : c < 16) (he : sh_rg e) (h0 : e = 0 → post (ch, o, f, s, k, upd st c e, va, m, sk, os, ov))
    (h1 : ¬ e = 0 → post (ch, o, f, s, k, upd st c e, upd va c 0, m, sk, os, ov)) : wX_compute_165 post (nI c) e ch o f s k st va m sk os ov := by
  have hi : vp_in (nI c) 16 := vp_in_nI hc (by decide)
  have hcl : (nI c).toNatClampNeg = c := nI_clamp (by omega)
  unfold wX_compute_165
  rw [hcl, sh_nar_rg8 he]
  exact ⟨hi, nm_e (br_c (fun z => h0 z) (fun z => ⟨hi, nm_e (h1 z)⟩))⟩
theorem xs_c56_e {post : SX → Prop} {c : Nat} {p e : Int32} (hc : c < 16) (he : sh_rg e) (h0 : ¬ e = 0)
    (h : post (ch, o, f, s, k, upd st c e, upd va c 0, m, sk, os, ov)) : wX_compute_56 post (nI c) p e ch o f s k st va m sk os ov :=
  br_f h0 (br_f h0 (br_f h0 (xs_c165 hc he (fun z => absurd z h0) (fun _ => h))))
theorem xs_compute {post : SX → Prop} {c : Nat} (hc : c < 16) (W : sh_cf (o c) (f c) (s c)) (hst : st c = 0) (hr : ∀ d, d < 16 → sh_rg (st d)) (ho : ¬ o c = -1)
    (hm : ∀ d, d < 16 → bt (sh_N o f s st va c) d = true → m d = 0)
    (h : post (ch, o, f, s, k, upd st c (sh_E o f s k st va c).1, upd va c (sh_E o f s k st va c).2, m, sk, os, ov)) :
    wpX_compute post (ch, o, f, s, k, st, va, m, sk, os, ov) (nI c) := by
  have hi : vp_in (nI c) 16 := vp_in_nI hc (by decide)
  have hcl : (nI c).toNatClampNeg = c := nI_clamp (by omega)
  have r0 : sh_rg 0 := Or.inl rfl
  have r1 : sh_rg 1 := Or.inr (Or.inl rfl)
  have r2 : sh_rg 2 := Or.inr (Or.inr (Or.inl rfl))
  unfold sh_E at h
  unfold sh_N at hm
  unfold wpX_compute
  dsimp only
  rw [hcl]
  refine ⟨hi, nm_e ⟨hi, nm_e ?_⟩⟩
  rcases W with ⟨eo, -, -⟩ | ⟨eo, -, -⟩ | ⟨eo, ⟨x, hx, ef⟩, -⟩ | ⟨eo, ⟨x, hx, ef⟩, -, -⟩ | ⟨eo, ⟨x, hx, ef⟩, y, hy, es⟩ | ⟨h2, ⟨x, hx, ef⟩, y, hy, es⟩
  · exact absurd eo ho
  · rw [eo, sh_e_8] at h
    rw [eo]
    exact br_f (by decide) (br_t rfl (xs_c56_e hc r2 (by decide) h))
  · rw [eo, sh_e_6, ef, nI_clamp (by omega)] at h
    have h' : post (ch, o, f, s, k, st, upd va c (if st x = 0 then 0 else 1), m, sk, os, ov) := by
      have e : upd st c 0 = st := sh_ue hst
      rw [← e]; rw [e]
      have h2 : post (ch, o, f, s, k, upd st c 0, upd va c (if st x = 0 then 0 else 1), m, sk, os, ov) := h
      rw [e] at h2
      exact h2
    have hix : vp_in (nI x) 16 := vp_in_nI hx (by decide)
    rw [eo, ef, nI_clamp (by omega)]
    refine br_t rfl ⟨hix, ?_⟩
    by_cases h0 : st x = 0
    · rw [if_pos h0] at h'
      exact br_t h0 ⟨hi, nm_e h'⟩
    · rw [if_neg h0] at h'
      exact br_f h0 ⟨hi, nm_e h'⟩
  · rw [eo, ef] at hm
    have hmx : m x = 0 := hm x hx (sh_n_4x hx _ _ _)
    rw [eo, sh_e_4, ef, nI_clamp (by omega)] at h
    rw [eo]
    refine br_f (by decide) (br_f (by decide) (xs_fe4 hc hx ef eo ?_))
    unfold sh_e4 at h
    by_cases h0 : st x = 0
    · rw [if_pos h0] at h
      rw [h0]
      refine br_t rfl (br_t rfl (xs_targetOf hc hx ef ?_))
      rw [ef, sh_t_x hx, sh_mk0 hmx, if_pos h0]
      rcases sh_tg_c (va x) (s c) with e | ⟨y, hy, e⟩
      · rw [e, if_pos (by decide)] at h
        rw [e]
        refine br_f (by decide) (br_f (by decide) ⟨hi, nm_r (e' := upd va c 0) (by rw [hcl]) (xs_c165 hc r2 (fun z => absurd z (by decide)) (fun _ => ?_))⟩)
        rw [sh_uu]; exact h
      · have hiy : vp_in (nI y) 16 := vp_in_nI hy (by decide)
        have hyl : (nI y).toNatClampNeg = y := nI_clamp (by omega)
        rw [e, if_neg (nI_pos (by omega)), hyl] at h
        rw [e, hyl]
        refine br_t (nI_pos' (by omega)) ⟨hiy, ?_⟩
        unfold wX_compute_91
        rw [hyl]
        refine br_t (nI_pos' (by omega)) ⟨hiy, ?_⟩
        refine ⟨hi, nm_r (e' := upd va c (va y)) (by rw [hcl]) (xs_c165 hc (hr y hy) (fun z => ?_) (fun z => ?_))⟩
        · rw [if_pos z] at h
          rw [z]; exact h
        · rw [if_neg z] at h
          rw [sh_uu]; exact h
    · rw [if_neg h0] at h
      exact xs_c56_e hc (hr x hx) h0 h
  · rw [eo, sh_e_5] at h
    rw [eo]
    refine br_f (by decide) (br_f (by decide) (xs_fe5 hc eo ?_))
    unfold sh_e5 at h
    have hf : sh_rg (sh_fe st (sh_sp (f c) (s c)) 16) := sh_fe_p (P := sh_rg) r0 (fun d hd _ => hr d hd) 16 (by omega)
    by_cases h0 : sh_fe st (sh_sp (f c) (s c)) 16 = 0
    · rw [if_pos h0] at h
      rw [h0]
      refine br_t rfl (br_f (by decide) (br_t rfl (br_f (by decide) (br_t rfl (xs_result5 hc hx hy ef es ⟨hi, nm_r (e' := upd va c (sh_sm va (sh_sp (f c) (s c)) 16 0)) (by rw [hcl]) (xs_c165 hc r0 (fun _ => h) (fun z => absurd rfl z))⟩)))))
    · rw [if_neg h0] at h
      exact xs_c56_e hc hf h0 h
  · obtain ⟨n1, n2, n3, n4, n5⟩ := sh_two_n h2
    have hyl : (nI y).toNatClampNeg = y := nI_clamp (by omega)
    have hiy : vp_in (nI y) 16 := vp_in_nI hy (by decide)
    rw [sh_e_2 h2, ef, es, nI_clamp (by omega), hyl] at h
    refine br_f n4 (br_f n2 (xs_fe2 hc hx hy ef es h2 ?_))
    unfold sh_e2 at h
    by_cases h0 : st x = 0
    · rw [if_pos h0] at h ⊢
      by_cases h1 : st y = 0
      · rw [if_pos h1] at h
        rw [h1]
        refine br_t rfl (br_f n5 (br_t rfl ?_))
        have go : ¬ (o c = 3 ∧ va y = 0) → wX_compute_148 post (nI c) (o c) 0 ch o f s k st va m sk os ov := fun hz => by
          rw [if_neg hz] at h
          exact br_t rfl (xs_result2 hc hx hy ef es h2 hz ⟨hi, nm_r (e' := upd va c (sh_ar (o c) (va x) (va y))) (by rw [hcl]) (xs_c165 hc r0 (fun _ => h) (fun z => absurd rfl z))⟩)
        by_cases h3 : o c = 3
        · refine br_t h3 ?_
          rw [hcl, es, hyl]
          refine ⟨hi, hiy, ?_⟩
          by_cases h4 : va y = 0
          · rw [if_pos ⟨h3, h4⟩] at h
            exact br_t h4 (xs_c165 hc r1 (fun z => absurd z (by decide)) (fun _ => h))
          · exact br_f h4 (go (fun z => h4 z.2))
        · exact br_f h3 (go (fun z => h3 z.1))
      · rw [if_neg h1] at h
        exact xs_c56_e hc (hr y hy) h1 h
    · rw [if_neg h0] at h ⊢
      exact xs_c56_e hc (hr x hx) h0 h
theorem xs_work_x {post : SX → Prop} {c : Nat} (hc : c < 16) (W : sh_cf (o c) (f c) (s c)) (hr : ∀ d, d < 16 → sh_rg (st d)) (hmc : m c = 2)
    (hq : ∀ d, d < 16 → bt (sh_N o f s (sh_mk m st) va c) d = true → m d = 0)
    (h : post (ch, o, f, s, k, upd st c (sh_E o f s k (sh_mk m st) va c).1, upd va c (sh_E o f s k (sh_mk m st) va c).2, m, sk, os, ov)) :
    (0 ≤ o c → wpX_compute post (ch, o, f, s, k, upd st c 0, upd va c 0, m, sk, os, ov) (nI c)) ∧ (¬ 0 ≤ o c → post (ch, o, f, s, k, upd st c 0, upd va c (k c), m, sk, os, ov)) := by
  have hne : ∀ d, d < 16 → bt (sh_N o f s (sh_mk m st) va c) d = true → d ≠ c := fun d hd hb z => by
    have := hq d hd hb
    rw [z, hmc] at this
    exact absurd this (by decide)
  by_cases eo : o c = -1
  · refine br_f (by rw [eo]; decide) ?_
    unfold sh_E at h
    rw [eo, sh_e_m1] at h
    exact h
  · have h0 : 0 ≤ o c := by
      rcases W with ⟨z, -, -⟩ | ⟨z, -, -⟩ | ⟨z, -, -⟩ | ⟨z, -, -, -⟩ | ⟨z, -, -⟩ | ⟨z, -, -⟩
      · exact absurd z eo
      · rw [z]; decide
      · rw [z]; decide
      · rw [z]; decide
      · rw [z]; decide
      · rcases z with z | z | z | z | z <;> rw [z] <;> decide
    refine br_t h0 ?_
    obtain ⟨eN, eE⟩ := sh_Nloc (st' := upd st c 0) (va' := upd va c 0) W (fun d hd hb => ⟨by rw [pk_un (hne d hd hb), sh_mk0 (hq d hd hb)], by rw [pk_un (hne d hd hb)]⟩)
    refine xs_compute hc W pk_us (fun d hd => ?_) eo (fun d hd hb => ?_) ?_
    · by_cases z : d = c
      · rw [z, pk_us]; exact Or.inl rfl
      · rw [pk_un z]; exact hr d hd
    · rw [eN] at hb; exact hq d hd hb
    · rw [eE, sh_uu, sh_uu]; exact h
theorem xs_work_11 {post : SX → Prop} {c : Nat} (hc : c < 16) (W : sh_cf (o c) (f c) (s c)) (hr : ∀ d, d < 16 → sh_rg (st d)) (hmc : m c = 2)
    (hm : ∀ d, d < 16 → m d = 0 ∨ m d = 1 ∨ m d = 2) (Hst : ∀ d, d < 16 → bt (sh_N o f s (sh_mk m st) va c) d = true → ¬ m d = 1)
    (HC : (∃ d, d < 16 ∧ bt (sh_N o f s (sh_mk m st) va c) d = true ∧ (m d = 2 ∨ (m d = 0 ∧ st d = 3))) → post (ch, o, f, s, k, upd st c 3, upd va c 0, m, sk, os, ov))
    (HN : (∀ d, d < 16 → bt (sh_N o f s (sh_mk m st) va c) d = true → m d = 0 ∧ ¬ st d = 3) →
      post (ch, o, f, s, k, upd st c (sh_E o f s k (sh_mk m st) va c).1, upd va c (sh_E o f s k (sh_mk m st) va c).2, m, sk, os, ov)) :
    ∀ (n j : Nat) (x : Int32), j + n = 16 →
      ((x = 3 ∧ ∃ d, d < 16 ∧ bt (sh_N o f s (sh_mk m st) va c) d = true ∧ (m d = 2 ∨ (m d = 0 ∧ st d = 3))) ∨ (x = 0 ∧ ∀ d, d < j → bt (sh_N o f s (sh_mk m st) va c) d = true → m d = 0 ∧ ¬ st d = 3)) →
      wX_work_11 post (nI c) (sh_N o f s (sh_mk m st) va c) ch o f s k st va m sk os ov (n + 1) x (nI j) := by
  have hi : vp_in (nI c) 16 := vp_in_nI hc (by decide)
  have hcl : (nI c).toNatClampNeg = c := nI_clamp (by omega)
  intro n
  induction n with
  | zero =>
    intro j x hj h
    have e : j = 16 := by omega
    rw [e] at h ⊢
    refine br_t (nI_le (a := 16) (by omega) (by omega)) ⟨hi, nm_r (e' := upd va c 0) (by rw [hcl]) ?_⟩
    rcases h with ⟨rfl, hB⟩ | ⟨rfl, hB⟩
    · exact br_t rfl ⟨hi, nm_r (e' := upd st c 3) (by rw [hcl, sh_nar_rg (Or.inr (Or.inr (Or.inr rfl)))]) (HC hB)⟩
    · refine br_f (by decide) ⟨hi, nm_r (e' := upd st c 0) (by rw [hcl, sh_nar_rg (Or.inl rfl)]) ⟨hi, ?_⟩⟩
      have hx := xs_work_x (ch := ch) (k := k) (sk := sk) (os := os) (ov := ov) hc W hr hmc (fun d hd hb => (hB d hd hb).1) (HN hB)
      rw [hcl]
      exact br_c (fun z => hx.1 z) (fun z => ⟨hi, hi, nm_r (e' := upd va c (k c)) (by rw [sh_uu]) (hx.2 z)⟩)
  | succ n ih =>
    intro j x hj h
    have hj16 : j < 16 := by omega
    have ecl : (nI j).toNatClampNeg = j := nI_clamp (by omega)
    have hin : vp_in (nI j) 16 := vp_in_nI hj16 (by decide)
    have bad : bt (sh_N o f s (sh_mk m st) va c) j = true → (m j = 2 ∨ (m j = 0 ∧ st j = 3)) → wX_work_11 post (nI c) (sh_N o f s (sh_mk m st) va c) ch o f s k st va m sk os ov (n + 1) 3 (nI (j + 1)) := fun hb hz =>
      ih (j + 1) 3 (by omega) (Or.inl ⟨rfl, j, hj16, hb, hz⟩)
    have good : (bt (sh_N o f s (sh_mk m st) va c) j = true → m j = 0 ∧ ¬ st j = 3) → wX_work_11 post (nI c) (sh_N o f s (sh_mk m st) va c) ch o f s k st va m sk os ov (n + 1) x (nI (j + 1)) := fun hz =>
      ih (j + 1) x (by omega) (by
        rcases h with h | ⟨h1, h2⟩
        · exact Or.inl h
        · refine Or.inr ⟨h1, fun d hd hb => ?_⟩
          rcases Nat.lt_or_ge d j with y | y
          · exact h2 d y hb
          · have e : d = j := by omega
            rw [e] at hb ⊢
            exact hz hb)
    refine br_f (nI_ge (b := 16) hj16 (by decide)) ?_
    by_cases hb : bt (sh_N o f s (sh_mk m st) va c) j = true
    · refine br_f (sh_t0 hj16 hb) ⟨hin, ?_⟩
      by_cases hm2 : m j = 2
      · exact br_t (by rw [ecl]; exact hm2) (nm_r (nI_1 j) (bad hb (Or.inl hm2)))
      · refine br_f (by rw [ecl]; exact hm2) ⟨hin, ?_⟩
        have hm0 : m j = 0 := by
          rcases hm j hj16 with z | z | z
          · exact z
          · exact absurd z (Hst j hj16 hb)
          · exact absurd z hm2
        by_cases hs : st j = 3
        · exact br_t (by rw [ecl]; exact hs) (nm_r (nI_1 j) (bad hb (Or.inr ⟨hm0, hs⟩)))
        · exact br_f (by rw [ecl]; exact hs) (nm_r (nI_1 j) (good (fun _ => ⟨hm0, hs⟩)))
    · exact br_t (sh_f0 hj16 hb) (nm_r (nI_1 j) (good (fun z => absurd z hb)))
theorem xs_work {post : SX → Prop} {c : Nat} (hc : c < 16) (W : sh_cf (o c) (f c) (s c)) (hr : ∀ d, d < 16 → sh_rg (st d)) (hmc : m c = 2)
    (hm : ∀ d, d < 16 → m d = 0 ∨ m d = 1 ∨ m d = 2) (Hst : ∀ d, d < 16 → bt (sh_N o f s (sh_mk m st) va c) d = true → ¬ m d = 1)
    (HC : (∃ d, d < 16 ∧ bt (sh_N o f s (sh_mk m st) va c) d = true ∧ (m d = 2 ∨ (m d = 0 ∧ st d = 3))) → post (ch, o, f, s, k, upd st c 3, upd va c 0, m, sk, os, ov))
    (HN : (∀ d, d < 16 → bt (sh_N o f s (sh_mk m st) va c) d = true → m d = 0 ∧ ¬ st d = 3) →
      post (ch, o, f, s, k, upd st c (sh_E o f s k (sh_mk m st) va c).1, upd va c (sh_E o f s k (sh_mk m st) va c).2, m, sk, os, ov)) :
    wpX_work post (ch, o, f, s, k, st, va, m, sk, os, ov) (nI c) := by
  unfold wpX_work
  dsimp only
  exact xs_needsOf hc W ⟨17, xs_work_11 hc W hr hmc hm Hst HC HN 16 0 0 rfl (Or.inr ⟨rfl, fun d hd => absurd hd (Nat.not_lt_zero d)⟩)⟩
end
end
section
def sh_df (st va os ov : Nat → Int32) : Nat → Int32 → Int32
  | 0 => fun x => x
  | n + 1 => fun x => sh_df st va os ov n (if st (15 - n) = os (15 - n) ∧ (st (15 - n) = 0 → va (15 - n) = ov (15 - n)) then x else x ||| sh_sb (nI (15 - n)))
theorem sh_df_c {st va os ov st' va' os' ov' : Nat → Int32} (H : ∀ i, i < 16 → st' i = st i ∧ va' i = va i) (H' : ∀ i, i < 16 → os' i = os i ∧ ov' i = ov i) :
    ∀ n, n ≤ 16 → ∀ x, sh_df st' va' os' ov' n x = sh_df st va os ov n x := by
  intro n
  induction n with
  | zero => intro _ _; rfl
  | succ n ih =>
    intro hn x
    unfold sh_df
    rw [ih (by omega), (H (15 - n) (by omega)).1, (H (15 - n) (by omega)).2, (H' (15 - n) (by omega)).1, (H' (15 - n) (by omega)).2]
theorem xs_settle_19 {ch : Int32} {o f s k os ov : Nat → Int32} (W : sh_W o f s) {m0 : Nat → Int32} {j0 : Nat} {post : SX → Prop}
    (H : ∀ (st va m sk : Nat → Int32) (S : Nat → Nat), sh_D o f s k st va m S 0 → (∀ i, i < 16 → m0 i = 0 → m i = 0) → ¬ m j0 = 1 → post (ch, o, f, s, k, st, va, m, sk, os, ov)) :
    ∀ (n r dp : Nat) (st va m sk : Nat → Int32) (S : Nat → Nat), sh_D o f s k st va m S dp → (∀ p, p < dp → sk p = nI (S p)) → r + 2 * sh_ct m 16 + dp ≤ 32 → dp + sh_ct m 16 ≤ 16 →
      2 * sh_ct m 16 + dp < n → (∀ i, i < 16 → m0 i = 0 → m i = 0) → ¬ m j0 = 1 → wX_settle_19 post n (nI dp) (nI r) ch o f s k st va m sk os ov := by
  intro n
  induction n with
  | zero => intro r dp st va m sk S _ _ _ _ h; exact absurd h (Nat.not_lt_zero _)
  | succ n ih =>
    intro r dp st va m sk S hD hsk hr hdp hn hm0 hj0
    cases dp with
    | zero =>
      exact br_f (nI_ge (b := 40) (by omega) (by decide)) (br_t (nI_le (a := 0) (b := 0) (by omega) (by decide)) (H st va m sk S hD hm0 hj0))
    | succ dp =>
      obtain ⟨hc, hmc⟩ := hD.1.2.2.1 dp (by omega)
      have hm := hD.1.1
      have hrg := hD.2.1
      have hcl : (nI (S dp)).toNatClampNeg = S dp := nI_clamp (by omega)
      have hi : vp_in (nI (S dp)) 16 := vp_in_nI hc (by decide)
      refine br_f (nI_ge (b := 40) (by omega) (by decide)) (br_f (nI_nle (by omega) (by omega)) ?_)
      rw [nI_pred]
      refine ⟨vp_in_nI (by omega) (by decide), nm_r (e' := nI (S dp)) (by rw [nI_clamp (by omega)]; exact hsk dp (by omega)) ?_⟩
      refine xs_staleNeed hc (W _ hc) (fun H0 => ?_) (fun d hd hb hm1 => ?_)
      · refine br_t (by decide) ?_
        have hct : sh_ct (upd m (S dp) 0) 16 = sh_ct m 16 := sh_ct_eq (by rw [hmc]; decide) (by decide) 16
        have e0 : upd m (nI (S dp)).toNatClampNeg (vp_nar .byte 0) = upd m (S dp) 0 := by rw [hcl, sh_nar_rg (Or.inl rfl)]
        have hm0' : ∀ i, i < 16 → m0 i = 0 → upd m (S dp) 0 i = 0 := fun i hi hz => by
          by_cases z : i = S dp
          · rw [z, pk_us]
          · rw [pk_un z]; exact hm0 i hi hz
        have hj0' : ¬ upd m (S dp) 0 j0 = 1 := by
          by_cases z : j0 = S dp
          · rw [z, pk_us]; decide
          · rw [pk_un z]; exact hj0
        refine xs_work hc (W _ hc) hrg hmc hm H0 (fun hB => ?_) (fun hB => ?_)
        · exact ⟨hi, nm_r e0 (nm_r (pk_m1 dp) (nm_r (nI_1 r) (ih (r + 1) dp _ _ _ sk S (sh_D_pop3 W hD hB) (fun p hp => hsk p (by omega)) (by omega) (by omega) (by omega) hm0' hj0')))⟩
        · exact ⟨hi, nm_r e0 (nm_r (pk_m1 dp) (nm_r (nI_1 r) (ih (r + 1) dp _ _ _ sk S (sh_D_popn W hD hB) (fun p hp => hsk p (by omega)) (by omega) (by omega) (by omega) hm0' hj0')))⟩
      · have hct : sh_ct (upd m d 2) 16 + 1 = sh_ct m 16 := sh_ct_dn hm1 (by decide) 16 hd
        have e0 : upd m (nI d).toNatClampNeg (vp_nar .byte 2) = upd m d 2 := by rw [nI_clamp (by omega), sh_nar_rg (Or.inr (Or.inr (Or.inl rfl)))]
        have e1 : upd sk (nI (dp + 1)).toNatClampNeg (vp_nar .byte (nI d).toInt8.toInt32) = upd sk (dp + 1) (nI d) := by rw [nI_clamp (by omega), sh_nar_x hd]
        refine br_f (nI_pos (by omega)) ⟨vp_in_nI hd (by decide), nm_r e0 ⟨vp_in_nI (by omega) (by decide), nm_r e1 (nm_r (nI_1 (dp + 1)) (nm_r (nI_1 r) ?_))⟩⟩
        refine ih (r + 1) (dp + 1 + 1) st va (upd m d 2) (upd sk (dp + 1) (nI d)) (fun p => if p = dp + 1 then d else S p) (sh_D_push hD hd hm1 (fun p hp => ?_)) (fun p hp => ?_) (by omega) (by omega) (by omega) (fun i hi hz => ?_) ?_
        · have e : p = dp := by omega
          rw [e]; exact hb
        · show upd sk (dp + 1) (nI d) p = nI (if p = dp + 1 then d else S p)
          by_cases z : p = dp + 1
          · rw [z, pk_us, if_pos rfl]
          · rw [pk_un z, if_neg z]; exact hsk p (by omega)
        · have z : i ≠ d := fun z => by
            have := hm0 i hi hz
            rw [z, hm1] at this
            exact absurd this (by decide)
          rw [pk_un z]; exact hm0 i hi hz
        · by_cases z : j0 = d
          · rw [z, pk_us]; decide
          · rw [pk_un z]; exact hj0
section
variable {ch : Int32} {o f s k st va m sk os ov : Nat → Int32}
theorem xs_settle (W : sh_W o f s) {S : Nat → Nat} {j : Nat} {post : SX → Prop} (hD : sh_D o f s k st va m S 0) (hj : j < 16) (hm : m j = 1)
    (H : ∀ (st va m' sk : Nat → Int32) (S : Nat → Nat), sh_D o f s k st va m' S 0 → (∀ i, i < 16 → m i = 0 → m' i = 0) → ¬ m' j = 1 → post (ch, o, f, s, k, st, va, m', sk, os, ov)) :
    wpX_settle post (ch, o, f, s, k, st, va, m, sk, os, ov) (nI j) := by
  have hct : sh_ct (upd m j 2) 16 + 1 = sh_ct m 16 := sh_ct_dn hm (by decide) 16 hj
  have hle := sh_ct_le m 16
  have e0 : upd m (nI j).toNatClampNeg (vp_nar .byte 2) = upd m j 2 := by rw [nI_clamp (by omega), sh_nar_rg (Or.inr (Or.inr (Or.inl rfl)))]
  have e1 : upd sk 0 (vp_nar .byte (nI j).toInt8.toInt32) = upd sk 0 (nI j) := by rw [sh_nar_x hj]
  unfold wpX_settle
  dsimp only
  refine nm_r e1 ⟨vp_in_nI hj (by decide), nm_r e0 ⟨40, ?_⟩⟩
  refine xs_settle_19 W H 40 0 1 st va (upd m j 2) (upd sk 0 (nI j)) (fun p => if p = 0 then j else S p) (sh_D_push hD hj hm (fun p hp => absurd hp (by omega))) (fun p hp => ?_) (by omega) (by omega) (by omega) (fun i hi hz => ?_) ?_
  · have z : p = 0 := by omega
    show upd sk 0 (nI j) p = nI (if p = 0 then j else S p)
    rw [z, pk_us, if_pos rfl]
  · have z : i ≠ j := fun z => by rw [z, hm] at hz; exact absurd hz (by decide)
    rw [pk_un z]; exact hz
  · rw [pk_us]; decide
theorem xs_w207 {post : SX → Prop} {J : Int32 → Int32 → Prop} {j : Nat} (h : J (nI (j + 1)) ch) : wX_write_207 post J (nI j) ch o f s k st va m sk os ov := by
  unfold wX_write_207 wX_write_208
  exact br_t rfl (nm_r (e' := ch) (by rw [Int32.or_zero]) (nm_r (nI_1 j) h))
theorem xs_w203 {post : SX → Prop} {J : Int32 → Int32 → Prop} {j : Nat} (h : J (nI (j + 1)) (ch ||| sh_sb (nI j))) : wX_write_203 post J (nI j) ch o f s k st va m sk os ov := by
  unfold wX_write_203 wX_write_208
  exact br_f (by decide) (nm_e (nm_r (nI_1 j) h))
theorem xs_write_152 {post : SX → Prop} : ∀ (n j : Nat) (x : Int32), j + n = 16 → post (sh_df st va os ov n x, o, f, s, k, st, va, m, sk, os, ov) →
    wX_write_152 post o f s k st va m sk os ov (n + 1) (nI j) x := by
  intro n
  induction n with
  | zero =>
    intro j x hj h
    exact br_t (nI_le (a := 16) (by omega) (by omega)) h
  | succ n ih =>
    intro j x hj h
    have hj16 : j < 16 := by omega
    have ecl : (nI j).toNatClampNeg = j := nI_clamp (by omega)
    have ej : 15 - n = j := by omega
    have hin : vp_in (nI j) 16 := vp_in_nI hj16 (by decide)
    unfold sh_df at h
    rw [ej] at h
    refine br_f (nI_ge (b := 16) hj16 (by decide)) ⟨hin, hin, ?_⟩
    rw [ecl]
    by_cases h1 : st j = os j
    · refine br_t h1 ⟨hin, ?_⟩
      by_cases h2 : st j = 0
      · refine br_t h2 ⟨hin, hin, ?_⟩
        by_cases h3 : va j = ov j
        · rw [if_pos ⟨h1, fun _ => h3⟩] at h
          exact br_t h3 (xs_w207 (ih (j + 1) x (by omega) h))
        · rw [if_neg (fun z => h3 (z.2 h2))] at h
          exact br_f h3 (xs_w203 (ih (j + 1) _ (by omega) h))
      · rw [if_pos ⟨h1, fun z => absurd z h2⟩] at h
        exact br_f h2 (xs_w207 (ih (j + 1) x (by omega) h))
    · rw [if_neg (fun z => h1 z.1)] at h
      exact br_f h1 (xs_w203 (ih (j + 1) _ (by omega) h))
end
theorem xs_write_114 {ch : Int32} {o f s k os ov : Nat → Int32} (W : sh_W o f s) {post : SX → Prop}
    (H : ∀ (st va m sk : Nat → Int32) (S : Nat → Nat), sh_D o f s k st va m S 0 → (∀ i, i < 16 → m i = 0) → ∃ n, wX_write_152 post o f s k st va m sk os ov n 0 0) :
    ∀ (n j : Nat) (st va m sk : Nat → Int32) (S : Nat → Nat), j + n = 16 → sh_D o f s k st va m S 0 → (∀ i, i < j → m i = 0) → wX_write_114 post (n + 1) (nI j) ch o f s k st va m sk os ov := by
  intro n
  induction n with
  | zero =>
    intro j st va m sk S hj hD hm
    have e : j = 16 := by omega
    rw [e] at hm
    exact br_t (nI_le (a := 16) (by omega) (by omega)) (H st va m sk S hD hm)
  | succ n ih =>
    intro j st va m sk S hj hD hm
    have hj16 : j < 16 := by omega
    have ecl : (nI j).toNatClampNeg = j := nI_clamp (by omega)
    have hin : vp_in (nI j) 16 := vp_in_nI hj16 (by decide)
    have nx : ∀ (st' va' m' sk' : Nat → Int32) (S' : Nat → Nat), sh_D o f s k st' va' m' S' 0 → (∀ i, i < j → m' i = 0) → ¬ m' j = 1 → wX_write_114 post (n + 1) (nI (j + 1)) ch o f s k st' va' m' sk' os ov := by
      intro st' va' m' sk' S' hD' hm' hj'
      refine ih (j + 1) st' va' m' sk' S' (by omega) hD' (fun i hi => ?_)
      rcases Nat.lt_or_ge i j with z | z
      · exact hm' i z
      · have e : i = j := by omega
        rw [e]
        rcases hD'.1.1 j hj16 with y | y | y
        · exact y
        · exact absurd y hj'
        · obtain ⟨p, hp, _⟩ := hD'.1.2.1 j hj16 y
          exact absurd hp (Nat.not_lt_zero p)
    refine br_f (nI_ge (b := 16) hj16 (by decide)) ⟨hin, ?_⟩
    by_cases h1 : m j = 1
    · refine br_t (by rw [ecl]; exact h1) (xs_settle W hD hj16 h1 (fun st' va' m' sk' S' hD' hmo hj' => ?_))
      exact nm_r (nI_1 j) (nx st' va' m' sk' S' hD' (fun i hi => hmo i (by omega) (hm i hi)) hj')
    · exact br_f (by rw [ecl]; exact h1) (nm_r (nI_1 j) (nx st va m sk S hD hm h1))
section
variable {ch : Int32} {o f s k st va sk : Nat → Int32}
theorem xs_write_14 {post : SX → Prop} {c : Nat} {o1 a1 b1 k1 q : Int32} (hc : c < 16) (hr : ∀ i, i < 16 → sh_rg (st i)) (hcf : sh_cf o1 a1 b1)
    (H : ∀ m os ov : Nat → Int32, (∀ i, i < 16 → os i = st i ∧ ov i = va i ∧ (m i = if bt q i = true then 1 else 0)) →
      ∃ n, wX_write_114 post n 0 ch (upd o c o1) (upd f c a1) (upd s c b1) (upd k c k1) st va m sk os ov) :
    ∀ (n j : Nat) (m os ov : Nat → Int32), j + n = 16 → (∀ i, i < j → os i = st i ∧ ov i = va i ∧ (m i = if bt q i = true then 1 else 0)) →
      wX_write_14 post (nI c) o1 a1 b1 k1 q ch (n + 1) (nI j) o f s k st va m sk os ov := by
  have hi : vp_in (nI c) 16 := vp_in_nI hc (by decide)
  have hcl : (nI c).toNatClampNeg = c := nI_clamp (by omega)
  obtain ⟨z1, z2, z3⟩ := sh_nar_cf hcf
  intro n
  induction n with
  | zero =>
    intro j m os ov hj h
    have e : j = 16 := by omega
    rw [e] at h
    exact br_t (nI_le (a := 16) (by omega) (by omega)) ⟨hi, nm_r (e' := upd o c o1) (by rw [hcl, z1]) ⟨hi, nm_r (e' := upd f c a1) (by rw [hcl, z2]) ⟨hi, nm_r (e' := upd s c b1) (by rw [hcl, z3]) ⟨hi, nm_r (e' := upd k c k1) (by rw [hcl]) (H m os ov h)⟩⟩⟩⟩
  | succ n ih =>
    intro j m os ov hj h
    have hj16 : j < 16 := by omega
    have ecl : (nI j).toNatClampNeg = j := nI_clamp (by omega)
    have hin : vp_in (nI j) 16 := vp_in_nI hj16 (by decide)
    have nx : ∀ x : Int32, x = (if bt q j = true then 1 else 0) → wX_write_14 post (nI c) o1 a1 b1 k1 q ch (n + 1) (nI (j + 1)) o f s k st va (upd m j x) sk (upd os j (st j)) (upd ov j (va j)) := by
      intro x hx
      refine ih (j + 1) _ _ _ (by omega) (fun i hi => ?_)
      by_cases z : i = j
      · rw [z, pk_us, pk_us, pk_us]; exact ⟨rfl, rfl, hx⟩
      · rw [pk_un z, pk_un z, pk_un z]; exact h i (by omega)
    refine br_f (nI_ge (b := 16) hj16 (by decide)) ⟨hin, hin, nm_r (e' := upd os j (st j)) (by rw [ecl, sh_nar_rg (hr j hj16)]) ⟨hin, hin, nm_r (e' := upd ov j (va j)) (by rw [ecl]) ?_⟩⟩
    by_cases hb : bt q j = true
    · exact br_f (sh_t0 hj16 hb) ⟨hin, nm_r (e' := upd m j 1) (by rw [ecl, sh_nar_rg8 (Or.inr (Or.inl rfl))]) (nm_r (nI_1 j) (nx 1 (by rw [if_pos hb])))⟩
    · exact br_t (sh_f0 hj16 hb) ⟨hin, nm_r (e' := upd m j 0) (by rw [ecl, sh_nar_rg8 (Or.inl rfl)]) (nm_r (nI_1 j) (nx 0 (by rw [if_neg hb])))⟩
end
theorem sh_W_upd {o f s : Nat → Int32} {c : Nat} {o1 a1 b1 : Int32} (W : sh_W o f s) (h : sh_cf o1 a1 b1) : sh_W (upd o c o1) (upd f c a1) (upd s c b1) := by
  intro i hi
  by_cases z : i = c
  · rw [z, pk_us, pk_us, pk_us]; exact h
  · rw [pk_un z, pk_un z, pk_un z]; exact W i hi
theorem xs_write {ch : Int32} {o f s k st va m sk os ov : Nat → Int32} {post : SX → Prop} {c : Nat} {o1 a1 b1 k1 : Int32} (W : sh_W o f s) (G : sh_G o f s k st va) (hr : ∀ i, i < 16 → sh_rg (st i))
    (hm : ∀ i, i < 16 → m i = 0) (hc : c < 16) (hcf : sh_cf o1 a1 b1)
    (H : ∀ st' va' m' sk' os' ov' : Nat → Int32, sh_G (upd o c o1) (upd f c a1) (upd s c b1) (upd k c k1) st' va' → (∀ i, i < 16 → sh_rg (st' i)) → (∀ i, i < 16 → m' i = 0) →
      (∀ i, i < 16 → os' i = st i ∧ ov' i = va i) → post (sh_df st' va' os' ov' 16 0, upd o c o1, upd f c a1, upd s c b1, upd k c k1, st', va', m', sk', os', ov')) :
    wpX_write post (ch, o, f, s, k, st, va, m, sk, os, ov) (nI c) o1 a1 b1 k1 := by
  have W' : sh_W (upd o c o1) (upd f c a1) (upd s c b1) := sh_W_upd W hcf
  have eN : ∀ i, i < 16 → sh_N o f s (sh_mk m st) va i = sh_N o f s st va i := fun i hi =>
    (sh_Nloc (W i hi) (fun d hd _ => ⟨sh_mk0 (hm d hd), rfl⟩)).1
  have hR : sh_rc (sh_N o f s st va) (sh_sb (nI c)) (sh_ro (sh_N o f s (sh_mk m st) va) (sh_sb (nI c)) 16 0) 16 := by
    rw [sh_ro_c eN]; exact sh_ro_cl _ _
  unfold wpX_write
  dsimp only
  refine xs_reach W (nm_e ⟨17, xs_write_14 hc hr hcf (fun m1 os1 ov1 h1 => ?_) 16 0 m os ov rfl (fun i hi => absurd hi (Nat.not_lt_zero i))⟩)
  generalize sh_ro (sh_N o f s (sh_mk m st) va) (sh_sb (nI c)) 16 0 = R at hR h1
  refine ⟨17, xs_write_114 W' (fun st2 va2 m2 sk2 S hD hm2 => ⟨17, xs_write_152 16 0 0 rfl (H st2 va2 m2 sk2 os1 ov1 (sh_D_end W' hD hm2) hD.2.1 hm2 (fun i hi => ⟨(h1 i hi).1, (h1 i hi).2.1⟩))⟩) 16 0 st va m1 sk (fun _ => 0) rfl ?_ (fun i hi => absurd hi (Nat.not_lt_zero i))⟩
  refine sh_D_start W G (fun i hi => ⟨pk_un hi, pk_un hi, pk_un hi, pk_un hi⟩) hR hc (fun i hi hz => ?_) (fun i hi hz => ?_) hr
  · have hb : bt (sh_sb (nI c) ||| R) i = true := by
      rw [sh_or_t, sh_sb_t (by omega)]
      rcases hz with z | z
      · exact Or.inr z
      · exact Or.inl z
    rw [(h1 i hi).2.2]
    exact if_pos hb
  · have hb : ¬ bt (sh_sb (nI c) ||| R) i = true := by
      rw [sh_or_t, sh_sb_t (by omega)]
      rintro (z | z)
      · exact hz (Or.inr z)
      · exact hz (Or.inl z)
    rw [(h1 i hi).2.2]
    exact if_neg hb
end
section
theorem sh_nb5 {x y d : Nat} (hx : x < 16) (hy : y < 16) (h : bt (sh_sp (nI x) (nI y)) d = true) : d < 16 := by
  rw [sh_sp_t hx hy] at h; omega
theorem sh_a15 : ∀ y, y < 16 → nI y &&& 15 = nI y := by decide +kernel
section
variable {df : Int32} {o f s k st va os ov : Nat → Int32}
theorem ys_is1 {post : Int32 → Prop} {c : Nat} (hc : c < 16) (hp : post 1) : wpY_is post (df, o, f, s, k, st, va, os, ov) (nI c) :=
  br_f (nI_pos (by omega)) (br_f (fun z => nI_ge (b := 16) hc (by decide) ((sh_i16 _).mp z)) hp)
theorem ys_is0 {post : Int32 → Prop} {p : Int32} (h : p < 0 ∨ nI 16 ≤ p) (hp : post 0) : wpY_is post (df, o, f, s, k, st, va, os, ov) p := by
  by_cases z : p < 0
  · exact br_t z hp
  · rcases h with y | y
    · exact absurd y z
    · exact br_f z (br_t ((sh_i16 _).mpr y) hp)
theorem ys_second {post : Int32 → Prop} {c x : Nat} (hc : c < 16) (hx : x < 16) (ef : f c = nI x) (h : post (sh_tg (va x) (s c))) :
    wpY_second post (df, o, f, s, k, st, va, os, ov) (nI c) := by
  have hi : vp_in (nI c) 16 := vp_in_nI hc (by decide)
  have hix : vp_in (nI x) 16 := vp_in_nI hx (by decide)
  have hcl : (nI c).toNatClampNeg = c := nI_clamp (by omega)
  have hxl : (nI x).toNatClampNeg = x := nI_clamp (by omega)
  unfold wpY_second
  dsimp only
  rw [hcl, ef, hxl]
  refine ⟨hi, hix, hi, nm_e ?_⟩
  unfold sh_tg at h
  by_cases h1 : (va x).toInt64 + (s c).toInt64 < 0
  · rw [if_pos h1] at h; exact br_t h1 h
  · rw [if_neg h1] at h
    by_cases h2 : 16 ≤ (va x).toInt64 + (s c).toInt64
    · rw [if_pos h2] at h
      exact br_f h1 (br_f ((sh_l16 _).mpr h2) h)
    · rw [if_neg h2] at h
      have h3 : (va x).toInt64 + (s c).toInt64 ≤ 15 := Classical.byContradiction (fun z => h2 ((sh_l16 _).mp z))
      exact br_f h1 (br_t h3 h)
theorem ys_wants_112 {post : Int32 → Prop} {c x y : Nat} (hc : c < 16) (hx : x < 16) (hy : y < 16) (ef : f c = nI x) (es : s c = nI y) (h : post (sh_sp (nI x) (nI y))) :
    ∀ (n j : Nat) (q : Int32), j + n = 16 → (∀ d, bt q d = true ↔ (d < j ∧ bt (sh_sp (nI x) (nI y)) d = true)) → wY_wants_112 post (nI c) df o f s k st va os ov (n + 1) q (nI j) := by
  have hi : vp_in (nI c) 16 := vp_in_nI hc (by decide)
  have hcl : (nI c).toNatClampNeg = c := nI_clamp (by omega)
  intro n
  induction n with
  | zero =>
    intro j q hj hq
    have e : q = sh_sp (nI x) (nI y) := by
      apply b_ext
      intro i _
      by_cases z : bt (sh_sp (nI x) (nI y)) i = true
      · rw [z]; exact (hq i).mpr ⟨by have := sh_nb5 hx hy z; omega, z⟩
      · have z1 : bt (sh_sp (nI x) (nI y)) i = false := by simpa using z
        have z2 : ¬ bt q i = true := fun w => z ((hq i).mp w).2
        have z3 : bt q i = false := by simpa using z2
        rw [z1, z3]
    rw [e]
    exact br_t (nI_le (a := 16) (by omega) (by omega)) h
  | succ n ih =>
    intro j q hj hq
    have hj16 : j < 16 := by omega
    have hmem := sh_sp_t (d := j) hx hy
    have add : bt (sh_sp (nI x) (nI y)) j = true → wY_wants_163 post (wY_wants_112 post (nI c) df o f s k st va os ov (n + 1)) (nI c) q (nI j) df o f s k st va os ov := fun hb =>
      nm_e (nm_r (nI_1 j) (ih (j + 1) _ (by omega) (fun d => by
        show bt (q ||| sh_sb (nI j)) d = true ↔ _
        rw [sh_or_t, sh_sb_t (by omega), hq d]
        constructor
        · rintro (⟨z1, z2⟩ | z)
          · exact ⟨by omega, z2⟩
          · exact ⟨by omega, by rw [z]; exact hb⟩
        · rintro ⟨z1, z2⟩
          rcases Nat.lt_or_ge d j with w | w
          · exact Or.inl ⟨w, z2⟩
          · exact Or.inr (by omega))))
    have skip : ¬ bt (sh_sp (nI x) (nI y)) j = true → wY_wants_112 post (nI c) df o f s k st va os ov (n + 1) q (nI (j + 1)) := fun hb =>
      ih (j + 1) _ (by omega) (fun d => by
        rw [hq d]
        constructor
        · rintro ⟨z1, z2⟩; exact ⟨by omega, z2⟩
        · rintro ⟨z1, z2⟩
          have : d ≠ j := fun w => hb (by rw [← w]; exact z2)
          exact ⟨by omega, z2⟩)
    have lx : (nI j < f c) ↔ j < x := by rw [ef]; exact nI_ltI (by omega) (by omega)
    have ly : (nI j < s c) ↔ j < y := by rw [es]; exact nI_ltI (by omega) (by omega)
    have gx : (f c < nI j) ↔ x < j := by rw [ef]; exact nI_ltI (by omega) (by omega)
    have my : (nI j ≤ s c) ↔ j ≤ y := by rw [es]; exact nI_leI (by omega) (by omega)
    have w141 : ¬ (x ≤ j ∧ j ≤ y) → wY_wants_141 post (wY_wants_112 post (nI c) df o f s k st va os ov (n + 1)) (nI c) q (nI j) df o f s k st va os ov := fun hno => by
      unfold wY_wants_141
      rw [hcl]
      refine ⟨hi, ?_⟩
      by_cases h1 : j < y
      · exact br_t (ly.mpr h1) (nm_r (nI_1 j) (skip (fun z => by have := hmem.mp z; omega)))
      · refine br_f (fun z => h1 (ly.mp z)) ⟨hi, ?_⟩
        by_cases h2 : x < j
        · exact br_t (gx.mpr h2) (nm_r (nI_1 j) (skip (fun z => by have := hmem.mp z; omega)))
        · exact br_f (fun z => h2 (gx.mp z)) (add (hmem.mpr (by omega)))
    refine br_f (nI_ge (b := 16) hj16 (by decide)) ⟨hi, ?_⟩
    rw [hcl]
    by_cases h1 : j < x
    · exact br_t (lx.mpr h1) (w141 (by omega))
    · refine br_f (fun z => h1 (lx.mp z)) ⟨hi, ?_⟩
      by_cases h2 : j ≤ y
      · exact br_t (my.mpr h2) (add (hmem.mpr (by omega)))
      · exact br_f (fun z => h2 (my.mp z)) (w141 (by omega))
theorem ys_wants {post : Int32 → Prop} {c : Nat} (hc : c < 16) (W : sh_cf (o c) (f c) (s c)) (h : post (sh_N o f s st va c)) :
    wpY_wants post (df, o, f, s, k, st, va, os, ov) (nI c) := by
  have hi : vp_in (nI c) 16 := vp_in_nI hc (by decide)
  have hcl : (nI c).toNatClampNeg = c := nI_clamp (by omega)
  unfold sh_N at h
  unfold wpY_wants
  dsimp only
  rw [hcl]
  refine ⟨hi, nm_e ?_⟩
  rcases W with ⟨eo, -, -⟩ | ⟨eo, -, -⟩ | ⟨eo, -, -⟩ | ⟨eo, ⟨x, hx, ef⟩, -, -⟩ | ⟨eo, ⟨x, hx, ef⟩, y, hy, es⟩ | ⟨h2, -, -⟩
  · rw [eo] at h ⊢
    rw [sh_n_m1] at h
    exact br_t (by decide) h
  · rw [eo] at h ⊢
    rw [sh_n_8] at h
    exact br_f (by decide) (br_t rfl h)
  · rw [eo] at h ⊢
    rw [sh_n_6] at h
    exact br_f (by decide) (br_f (by decide) (br_t rfl ⟨hi, h⟩))
  · rw [eo, ef, sh_n_4, sh_t_x hx] at h
    have hix : vp_in (nI x) 16 := vp_in_nI hx (by decide)
    have hxl : (nI x).toNatClampNeg = x := nI_clamp (by omega)
    have w62 : ∀ z : Int32, (if z < 0 then sh_sb (nI x) else sh_sb (nI x) ||| sh_sb z) = (if (if st x = 0 then sh_tg (va x) (s c) else -1) < 0 then sh_sb (nI x) else sh_sb (nI x) ||| sh_sb (if st x = 0 then sh_tg (va x) (s c) else -1)) →
        wY_wants_62 post (nI c) z df o f s k st va os ov := fun z ez => by
      unfold wY_wants_62
      rw [hcl, ef]
      refine ⟨hi, ?_⟩
      rw [← ez] at h
      by_cases hz : z < 0
      · rw [if_pos hz] at h
        refine br_t hz ?_
        rw [Int32.or_zero]; exact h
      · rw [if_neg hz] at h
        exact br_f hz h
    rw [eo, ef, hxl]
    refine br_f (by decide) (br_f (by decide) (br_f (by decide) (br_t rfl ⟨hi, hix, ?_⟩)))
    by_cases h0 : st x = 0
    · exact br_t h0 (ys_second hc hx ef (w62 _ (by rw [if_pos h0])))
    · exact br_f h0 (w62 _ (by rw [if_neg h0]))
  · rw [eo, ef, es, sh_n_5] at h
    rw [eo]
    refine br_f (by decide) (br_f (by decide) (br_f (by decide) (br_f (by decide) (br_t rfl ⟨17, ys_wants_112 hc hx hy ef es h 16 0 0 rfl (fun d => ?_)⟩))))
    rw [b_0]
    constructor
    · intro z; cases z
    · rintro ⟨z, -⟩; exact absurd z (Nat.not_lt_zero d)
  · rw [sh_n_2 h2] at h
    obtain ⟨n1, n2, n3, n4, n5⟩ := sh_two_n h2
    exact br_f n1 (br_f n2 (br_f n4 (br_f n5 (br_f n3 ⟨hi, hi, h⟩))))
theorem ys_fe_156 {post : Int32 → Prop} {q : Int32} : ∀ (n j : Nat), j + n = 16 → (sh_fe st q n = 0 → post (-1)) → (∀ d, d < 16 → st d = sh_fe st q n → ¬ sh_fe st q n = 0 → post (nI d)) →
    wY_firstError_156 post q df o f s k st va os ov (n + 1) (nI j) := by
  intro n
  induction n with
  | zero =>
    intro j hj h _
    exact br_t (nI_le (a := 16) (by omega) (by omega)) (h rfl)
  | succ n ih =>
    intro j hj h h'
    have hj16 : j < 16 := by omega
    have ecl : (nI j).toNatClampNeg = j := nI_clamp (by omega)
    have ej : 15 - n = j := by omega
    have hin : vp_in (nI j) 16 := vp_in_nI hj16 (by decide)
    unfold sh_fe at h h'
    rw [ej] at h h'
    refine br_f (nI_ge (b := 16) hj16 (by decide)) ?_
    by_cases hb : bt q j = true
    · by_cases hs : st j = 0
      · rw [if_neg (fun z => z.2 hs)] at h h'
        exact br_t (sh_t1 hj16 hb) ⟨hin, br_t (by rw [ecl]; exact hs) (nm_r (nI_1 j) (ih (j + 1) (by omega) h h'))⟩
      · rw [if_pos ⟨hb, hs⟩] at h h'
        exact br_t (sh_t1 hj16 hb) ⟨hin, br_f (by rw [ecl]; exact hs) (h' j hj16 rfl hs)⟩
    · rw [if_neg (fun z => hb z.1)] at h h'
      exact br_f (sh_f1 hj16 hb) (nm_r (nI_1 j) (ih (j + 1) (by omega) h h'))
theorem ys_fe5 {post : Int32 → Prop} {c : Nat} (hc : c < 16) (W : sh_cf (o c) (f c) (s c)) (eo : o c = 5) (h : sh_fe st (sh_sp (f c) (s c)) 16 = 0 → post (-1))
    (h' : ∀ d, d < 16 → st d = sh_fe st (sh_sp (f c) (s c)) 16 → ¬ sh_fe st (sh_sp (f c) (s c)) 16 = 0 → post (nI d)) :
    wpY_firstError post (df, o, f, s, k, st, va, os, ov) (nI c) := by
  have hi : vp_in (nI c) 16 := vp_in_nI hc (by decide)
  have hcl : (nI c).toNatClampNeg = c := nI_clamp (by omega)
  have e : sh_N o f s st va c = sh_sp (f c) (s c) := by unfold sh_N; rw [eo, sh_n_5]
  unfold wpY_firstError
  dsimp only
  rw [hcl]
  refine ys_wants hc W ⟨hi, br_t eo ⟨17, ?_⟩⟩
  rw [e]
  exact ys_fe_156 16 0 rfl h h'
theorem ys_130 {post : Int32 → Prop} {x3 x4 x5 : Int32} (h0 : x4 = 0 → post (-1)) (h1 : ¬ x4 = 0 → post x3) : wY_firstError_130 post x3 x4 x5 df o f s k st va os ov := by
  unfold wY_firstError_130 wY_firstError_131
  exact br_c (fun z => br_t rfl (h0 z)) (fun z => h1 z)
theorem ys_131 {post : Int32 → Prop} {x3 x4 x5 : Int32} (h0 : x4 = 0 → post x5) (h1 : ¬ x4 = 0 → post x3) : wY_firstError_131 post x3 x4 x5 1 df o f s k st va os ov := by
  unfold wY_firstError_131
  exact br_c (fun z => br_f (by decide) (h0 z)) (fun z => h1 z)
theorem ys_77 {post : Int32 → Prop} {c y : Nat} {q x3 x4 : Int32} (hc : c < 16) (hy : y < 16) (n8 : ¬ o c = 8) (n6 : ¬ o c = 6) (hb : bt q y = true)
    (h1 : ¬ x4 = 0 → post x3) (h2 : x4 = 0 → st y = 0 → post (-1)) (h3 : x4 = 0 → ¬ st y = 0 → post (nI y)) :
    wY_firstError_77 post (nI c) q x3 x4 (nI y) df o f s k st va os ov := by
  have hi : vp_in (nI c) 16 := vp_in_nI hc (by decide)
  have hcl : (nI c).toNatClampNeg = c := nI_clamp (by omega)
  have hiy : vp_in (nI y) 16 := vp_in_nI hy (by decide)
  have hyl : (nI y).toNatClampNeg = y := nI_clamp (by omega)
  unfold wY_firstError_77
  rw [hcl, hyl]
  refine ⟨hi, br_f n8 ⟨hi, br_f n6 (br_f (nI_pos (by omega)) (br_t (sh_t1 hy hb) ⟨hiy, ?_⟩))⟩⟩
  by_cases hs : st y = 0
  · exact br_t hs (ys_130 (fun z => h2 z hs) h1)
  · exact br_f hs (ys_131 (fun z => h3 z hs) h1)
theorem ys_77n {post : Int32 → Prop} {c : Nat} {q x3 x4 : Int32} (hc : c < 16) (n8 : ¬ o c = 8) (n6 : ¬ o c = 6)
    (h1 : ¬ x4 = 0 → post x3) (h2 : x4 = 0 → post (-1)) : wY_firstError_77 post (nI c) q x3 x4 (-1) df o f s k st va os ov := by
  have hi : vp_in (nI c) 16 := vp_in_nI hc (by decide)
  have hcl : (nI c).toNatClampNeg = c := nI_clamp (by omega)
  unfold wY_firstError_77
  rw [hcl]
  exact ⟨hi, br_f n8 ⟨hi, br_f n6 (br_t (by decide) (ys_130 h2 h1))⟩⟩
theorem ys_fe8 {post : Int32 → Prop} {c : Nat} (hc : c < 16) (W : sh_cf (o c) (f c) (s c)) (eo : o c = 8) (h : post (-1)) : wpY_firstError post (df, o, f, s, k, st, va, os, ov) (nI c) := by
  have hi : vp_in (nI c) 16 := vp_in_nI hc (by decide)
  have hcl : (nI c).toNatClampNeg = c := nI_clamp (by omega)
  unfold wpY_firstError
  dsimp only
  rw [hcl, eo]
  refine ys_wants hc W ⟨hi, br_f (by decide) ⟨hi, nm_e ⟨hi, br_t rfl ?_⟩⟩⟩
  unfold wY_firstError_47 wY_firstError_48
  rw [hcl, eo]
  refine ⟨hi, br_f (by decide) ⟨hi, ?_⟩⟩
  unfold wY_firstError_77
  rw [hcl, eo]
  exact ⟨hi, br_t rfl (ys_130 (fun _ => h) (fun z => absurd rfl z))⟩
theorem ys_fe_h {post : Int32 → Prop} {c x : Nat} (hc : c < 16) (W : sh_cf (o c) (f c) (s c)) (hx : x < 16) (ef : f c = nI x) (n5 : ¬ o c = 5) (n8 : ¬ o c = 8)
    (h : ∀ x4 : Int32, (x4 = 0 ↔ st x = 0) → wY_firstError_48 post (nI c) (sh_N o f s st va c) (nI x) x4 df o f s k st va os ov) : wpY_firstError post (df, o, f, s, k, st, va, os, ov) (nI c) := by
  have hi : vp_in (nI c) 16 := vp_in_nI hc (by decide)
  have hcl : (nI c).toNatClampNeg = c := nI_clamp (by omega)
  have hix : vp_in (nI x) 16 := vp_in_nI hx (by decide)
  have hxl : (nI x).toNatClampNeg = x := nI_clamp (by omega)
  unfold wpY_firstError
  dsimp only
  rw [hcl, ef]
  refine ys_wants hc W ⟨hi, br_f n5 ⟨hi, nm_e ⟨hi, br_f n8 ⟨hix, ?_⟩⟩⟩⟩
  rw [hxl]
  by_cases h0 : st x = 0
  · exact br_t h0 (h 0 ⟨fun _ => h0, fun _ => rfl⟩)
  · exact br_f h0 (h 1 ⟨fun z => absurd z (by decide), fun z => absurd z h0⟩)
theorem ys_fe6 {post : Int32 → Prop} {c x : Nat} (hc : c < 16) (W : sh_cf (o c) (f c) (s c)) (hx : x < 16) (ef : f c = nI x) (eo : o c = 6)
    (h0 : st x = 0 → post (-1)) (h1 : ¬ st x = 0 → post (nI x)) : wpY_firstError post (df, o, f, s, k, st, va, os, ov) (nI c) := by
  have hi : vp_in (nI c) 16 := vp_in_nI hc (by decide)
  have hcl : (nI c).toNatClampNeg = c := nI_clamp (by omega)
  refine ys_fe_h hc W hx ef (by rw [eo]; decide) (by rw [eo]; decide) (fun x4 hx4 => ?_)
  unfold wY_firstError_48
  rw [hcl]
  refine ⟨hi, br_f (by rw [eo]; decide) ⟨hi, ?_⟩⟩
  unfold wY_firstError_77
  rw [hcl]
  exact ⟨hi, br_f (by rw [eo]; decide) ⟨hi, br_t eo (ys_130 (fun z => h0 (hx4.mp z)) (fun z => h1 (fun y => z (hx4.mpr y))))⟩⟩
theorem ys_fe4 {post : Int32 → Prop} {c x : Nat} (hc : c < 16) (W : sh_cf (o c) (f c) (s c)) (hx : x < 16) (ef : f c = nI x) (eo : o c = 4)
    (h1 : ¬ st x = 0 → post (nI x)) (h0 : st x = 0 → sh_tg (va x) (s c) = -1 → post (-1)) (h2 : ∀ y, y < 16 → st x = 0 → sh_tg (va x) (s c) = nI y → st y = 0 → post (-1))
    (h3 : ∀ y, y < 16 → st x = 0 → sh_tg (va x) (s c) = nI y → ¬ st y = 0 → post (nI y)) : wpY_firstError post (df, o, f, s, k, st, va, os, ov) (nI c) := by
  have hi : vp_in (nI c) 16 := vp_in_nI hc (by decide)
  have hcl : (nI c).toNatClampNeg = c := nI_clamp (by omega)
  have n8 : ¬ o c = 8 := by rw [eo]; decide
  have n6 : ¬ o c = 6 := by rw [eo]; decide
  refine ys_fe_h hc W hx ef (by rw [eo]; decide) n8 (fun x4 hx4 => ?_)
  unfold wY_firstError_48
  rw [hcl]
  refine ⟨hi, br_t eo (ys_second hc hx ef ?_)⟩
  have hA : ¬ x4 = 0 → post (nI x) := fun z => h1 (fun y => z (hx4.mpr y))
  rcases sh_tg_c (va x) (s c) with e | ⟨y, hy, e⟩
  · rw [e]
    exact ys_77n hc n8 n6 hA (fun z => h0 (hx4.mp z) e)
  · by_cases hb : bt (sh_N o f s st va c) y = true
    · rw [e]
      exact ys_77 hc hy n8 n6 hb hA (fun z w => h2 y hy (hx4.mp z) e w) (fun z w => h3 y hy (hx4.mp z) e w)
    · have h4 : ¬ x4 = 0 := fun z => hb (by
        unfold sh_N
        rw [eo, ef]
        exact sh_n_4y hx hy (hx4.mp z) e)
      rw [e]
      unfold wY_firstError_77
      rw [hcl]
      exact ⟨hi, br_f n8 ⟨hi, br_f n6 (br_f (nI_pos (by omega)) (br_f (sh_f1 hy hb) (ys_130 (fun z => absurd z h4) hA)))⟩⟩
theorem ys_fe2 {post : Int32 → Prop} {c x y : Nat} (hc : c < 16) (W : sh_cf (o c) (f c) (s c)) (hx : x < 16) (hy : y < 16) (ef : f c = nI x) (es : s c = nI y) (h2 : sh_two (o c))
    (h1 : ¬ st x = 0 → post (nI x)) (h0 : st x = 0 → st y = 0 → post (-1)) (h3 : st x = 0 → ¬ st y = 0 → post (nI y)) : wpY_firstError post (df, o, f, s, k, st, va, os, ov) (nI c) := by
  have hi : vp_in (nI c) 16 := vp_in_nI hc (by decide)
  have hcl : (nI c).toNatClampNeg = c := nI_clamp (by omega)
  obtain ⟨n1, n8, n5, n6, n4⟩ := sh_two_n h2
  refine ys_fe_h hc W hx ef n5 n8 (fun x4 hx4 => ?_)
  unfold wY_firstError_48
  rw [hcl, es, sh_a15 y hy]
  refine ⟨hi, br_f n4 ⟨hi, ys_77 hc hy n8 n6 ?_ (fun z => h1 (fun w => z (hx4.mpr w))) (fun z w => h0 (hx4.mp z) w) (fun z w => h3 (hx4.mp z) w)⟩⟩
  unfold sh_N
  rw [sh_n_2 h2, es, sh_or_t]
  exact Or.inr ((sh_sb_t (by omega)).mpr rfl)
theorem ys_number {post : SY → Prop} {c : Nat} {v : Int32} (hc : c < 16) (h : post (df, o, f, s, k, upd st c 0, upd va c v, os, ov)) : wpY_number post (df, o, f, s, k, st, va, os, ov) (nI c) v := by
  have hi : vp_in (nI c) 16 := vp_in_nI hc (by decide)
  have hcl : (nI c).toNatClampNeg = c := nI_clamp (by omega)
  unfold wpY_number
  dsimp only
  rw [hcl]
  exact ⟨hi, nm_e ⟨hi, nm_e h⟩⟩
theorem ys_sm_11 {post : Int32 → Prop} {q : Int32} : ∀ (n j : Nat) (x : Int32), j + n = 16 → post (sh_sm va q n x) → wY_sum_11 post q df o f s k st va os ov (n + 1) x (nI j) := by
  intro n
  induction n with
  | zero =>
    intro j x hj h
    exact br_t (nI_le (a := 16) (by omega) (by omega)) h
  | succ n ih =>
    intro j x hj h
    have hj16 : j < 16 := by omega
    have ecl : (nI j).toNatClampNeg = j := nI_clamp (by omega)
    have ej : 15 - n = j := by omega
    have hin : vp_in (nI j) 16 := vp_in_nI hj16 (by decide)
    unfold sh_sm at h
    rw [ej] at h
    refine br_f (nI_ge (b := 16) hj16 (by decide)) ?_
    by_cases hb : bt q j = true
    · rw [if_pos hb] at h
      exact br_t (sh_t1 hj16 hb) ⟨hin, nm_r (e' := x + va j) (by rw [ecl]) (nm_r (nI_1 j) (ih (j + 1) _ (by omega) h))⟩
    · rw [if_neg hb] at h
      exact br_f (sh_f1 hj16 hb) (nm_r (nI_1 j) (ih (j + 1) _ (by omega) h))
theorem ys_285 {post : SY → Prop} {c : Nat} {v : Int32} (hc : c < 16) (h : post (df, o, f, s, k, upd st c 0, upd va c v, os, ov)) : wY_evaluate_285 post v (nI c) df o f s k st va os ov := by
  unfold wY_evaluate_285
  exact ys_number hc h
theorem ys_222 {post : SY → Prop} {c : Nat} {p x y z : Int32} (hc : c < 16) (h2 : sh_two p) (hz : p = 3 → z = x / y) (h : post (df, o, f, s, k, upd st c 0, upd va c (sh_ar p x y), os, ov)) :
    wY_evaluate_222 post (nI c) p x y z df o f s k st va os ov := by
  unfold wY_evaluate_222
  unfold sh_ar at h
  rcases h2 with rfl | rfl | rfl | rfl | rfl
  · rw [if_pos rfl] at h
    exact br_t rfl (ys_285 hc h)
  · rw [if_neg (by decide), if_pos rfl] at h
    exact br_f (by decide) (br_t rfl (ys_285 hc h))
  · rw [if_neg (by decide), if_neg (by decide), if_pos rfl] at h
    exact br_f (by decide) (br_f (by decide) (br_t rfl (ys_285 hc h)))
  · rw [if_neg (by decide), if_neg (by decide), if_neg (by decide), if_pos rfl] at h
    rw [hz rfl]
    exact br_f (by decide) (br_f (by decide) (br_f (by decide) (br_t rfl (ys_285 hc h))))
  · rw [if_neg (by decide), if_neg (by decide), if_neg (by decide), if_neg (by decide)] at h
    refine br_f (by decide) (br_f (by decide) (br_f (by decide) (br_f (by decide) ?_)))
    by_cases h0 : x = 0
    · rw [if_pos h0] at h; exact br_t h0 (ys_285 hc h)
    · rw [if_neg h0] at h; exact br_f h0 (ys_285 hc h)
end
end
section
section
variable {df : Int32} {o f s k st va os ov : Nat → Int32}
theorem ys_evaluate {post : SY → Prop} {c : Nat} (hc : c < 16) (W : sh_cf (o c) (f c) (s c)) (hva : va c = 0) (ho : ¬ o c = -1)
    (h : post (df, o, f, s, k, upd st c (sh_E o f s k st va c).1, upd va c (sh_E o f s k st va c).2, os, ov)) :
    wpY_evaluate post (df, o, f, s, k, st, va, os, ov) (nI c) := by
  have W0 := W
  have hi : vp_in (nI c) 16 := vp_in_nI hc (by decide)
  have hcl : (nI c).toNatClampNeg = c := nI_clamp (by omega)
  have ev : upd va c 0 = va := sh_ue hva
  have er : ∀ (e : Int32) (d : Nat), d < 16 → st d = e → post (df, o, f, s, k, upd st c e, upd va c 0, os, ov) →
      (vp_in (nI d) 16 ∧ (vp_in (nI c) 16 ∧ ∀ a : Nat → Int32, a = upd st c (st (nI d).toNatClampNeg) → post (df, o, f, s, k, a, va, os, ov))) := fun e d hd he hp => by
    rw [ev] at hp
    exact ⟨vp_in_nI hd (by decide), hi, nm_r (e' := upd st c e) (by rw [nI_clamp (by omega), he]) hp⟩
  unfold sh_E at h
  unfold wpY_evaluate
  dsimp only
  rw [hcl]
  refine ⟨hi, nm_e ⟨hi, nm_e ⟨hi, nm_e ?_⟩⟩⟩
  rcases W with ⟨eo, -, -⟩ | ⟨eo, -, -⟩ | ⟨eo, ⟨x, hx, ef⟩, -⟩ | ⟨eo, ⟨x, hx, ef⟩, -, -⟩ | ⟨eo, ⟨x, hx, ef⟩, y, hy, es⟩ | ⟨h2, ⟨x, hx, ef⟩, y, hy, es⟩
  · exact absurd eo ho
  · rw [eo, sh_e_8] at h
    have h' : post (df, o, f, s, k, upd st c 2, upd va c 0, os, ov) := h
    rw [ev] at h'
    refine ys_fe8 hc W0 eo ?_
    exact br_f (by rw [eo]; decide) (br_t eo ⟨hi, nm_e h'⟩)
  · rw [eo, sh_e_6, ef, nI_clamp (by omega)] at h
    refine ys_fe6 hc W0 hx ef eo (fun h0 => ?_) (fun h0 => ?_)
    · rw [if_pos h0] at h
      exact br_t eo (br_f (by decide) (ys_number hc h))
    · rw [if_neg h0] at h
      exact br_t eo (br_t (nI_pos' (by omega)) (ys_number hc h))
  · rw [eo, sh_e_4, ef, nI_clamp (by omega)] at h
    have n6 : ¬ o c = 6 := by rw [eo]; decide
    have n8 : ¬ o c = 8 := by rw [eo]; decide
    unfold sh_e4 at h
    refine ys_fe4 hc W0 hx ef eo (fun h0 => ?_) (fun h0 e => ?_) (fun y hy h0 e h1 => ?_) (fun y hy h0 e h1 => ?_)
    · rw [if_neg h0] at h
      exact br_f n6 (br_f n8 (br_f (nI_pos (by omega)) (er _ x hx rfl h)))
    · rw [if_pos h0, e, if_pos (by decide)] at h
      refine br_f n6 (br_f n8 (br_t (by decide) (br_t eo (ys_second hc hx ef ?_))))
      rw [e]
      exact br_f (by decide) ⟨hi, nm_r (e' := upd st c 2) (by rw [hcl]) (br_f (by decide) ⟨hi, nm_r (e' := upd va c 0) (by rw [hcl]) h⟩)⟩
    · have hiy : vp_in (nI y) 16 := vp_in_nI hy (by decide)
      have hyl : (nI y).toNatClampNeg = y := nI_clamp (by omega)
      rw [if_pos h0, e, if_neg (nI_pos (by omega)), hyl, if_pos h1] at h
      refine br_f n6 (br_f n8 (br_t (by decide) (br_t eo (ys_second hc hx ef ?_))))
      rw [e]
      exact br_t (nI_pos' (by omega)) ⟨hi, nm_r (e' := upd st c 0) (by rw [hcl]) (br_t (nI_pos' (by omega)) ⟨hiy, hi, nm_r (e' := upd va c (va y)) (by rw [hcl, hyl]) h⟩)⟩
    · have hyl : (nI y).toNatClampNeg = y := nI_clamp (by omega)
      rw [if_pos h0, e, if_neg (nI_pos (by omega)), hyl, if_neg h1] at h
      exact br_f n6 (br_f n8 (br_f (nI_pos (by omega)) (er _ y hy rfl h)))
  · rw [eo, sh_e_5] at h
    have n6 : ¬ o c = 6 := by rw [eo]; decide
    have n8 : ¬ o c = 8 := by rw [eo]; decide
    unfold sh_e5 at h
    have e : sh_N o f s st va c = sh_sp (f c) (s c) := by unfold sh_N; rw [eo, sh_n_5]
    refine ys_fe5 hc W0 eo (fun h0 => ?_) (fun d hd hd1 h0 => ?_)
    · rw [if_pos h0] at h
      refine br_f n6 (br_f n8 (br_t (by decide) (br_f (by rw [eo]; decide) (br_f (by rw [eo]; decide) (br_t eo ?_)))))
      unfold wpY_sum
      dsimp only
      refine ys_wants hc W0 ⟨17, ?_⟩
      rw [e]
      exact ys_sm_11 16 0 0 rfl (ys_number hc h)
    · rw [if_neg h0] at h
      exact br_f n6 (br_f n8 (br_f (nI_pos (by omega)) (er _ d hd hd1 h)))
  · obtain ⟨n1, n8, n5, n6, n4⟩ := sh_two_n h2
    have hix : vp_in (nI x) 16 := vp_in_nI hx (by decide)
    have hiy : vp_in (nI y) 16 := vp_in_nI hy (by decide)
    have hxl : (nI x).toNatClampNeg = x := nI_clamp (by omega)
    have hyl : (nI y).toNatClampNeg = y := nI_clamp (by omega)
    rw [sh_e_2 h2, ef, es, hxl, hyl] at h
    unfold sh_e2 at h
    refine ys_fe2 hc W0 hx hy ef es h2 (fun h0 => ?_) (fun h0 h1 => ?_) (fun h0 h1 => ?_)
    · rw [if_neg h0] at h
      exact br_f n6 (br_f n8 (br_f (nI_pos (by omega)) (er _ x hx rfl h)))
    · rw [if_pos h0, if_pos h1] at h
      refine br_f n6 (br_f n8 (br_t (by decide) (br_f n4 ?_)))
      rw [ef, es, hyl]
      have go : ¬ (o c = 3 ∧ va y = 0) → wY_evaluate_168 post (nI c) (o c) (nI x) (nI y) df o f s k st va os ov := fun hz => by
        rw [if_neg hz] at h
        unfold wY_evaluate_168
        rw [hxl, hyl]
        refine br_f n5 ⟨hix, nm_e ⟨hiy, nm_e ?_⟩⟩
        by_cases h3 : o c = 3
        · have hy0 : ¬ va y = 0 := fun z => hz ⟨h3, z⟩
          exact br_t h3 (br_f hy0 ⟨hy0, ys_222 hc h2 (fun _ => rfl) h⟩)
        · exact br_f h3 (ys_222 hc h2 (fun z => absurd z h3) h)
      by_cases h3 : o c = 3
      · refine br_t h3 ⟨hiy, ?_⟩
        by_cases h4 : va y = 0
        · rw [if_pos ⟨h3, h4⟩] at h
          have h' : post (df, o, f, s, k, upd st c 1, upd va c 0, os, ov) := h
          rw [ev] at h'
          exact br_t h4 ⟨hi, nm_e h'⟩
        · exact br_f h4 (go (fun z => h4 z.2))
      · exact br_f h3 (go (fun z => h3 z.1))
    · rw [if_pos h0, if_neg h1] at h
      exact br_f n6 (br_f n8 (br_f (nI_pos (by omega)) (er _ y hy rfl h)))
end
section
variable {df : Int32} {o f s k os ov : Nat → Int32}
theorem ys_settle_66 (W : sh_W o f s) {post : SY → Prop} {J : Int32 → Int32 → Int32 → (Nat → Int32) → (Nat → Int32) → (Nat → Int32) → (Nat → Int32) → (Nat → Int32) → (Nat → Int32) → (Nat → Int32) → (Nat → Int32) → Prop} {x2 : Int32} {r : Nat}
    (H : ∀ (M : Int32) (st va : Nat → Int32), sh_Y o f s k st va M → (∀ i, i < 16 → o i = -1 → bt M i = true) → sh_P o f s st va M r 16 → J M (x2 + 1) df o f s k st va os ov) :
    ∀ (n j : Nat) (M : Int32) (st va : Nat → Int32), j + n = 16 → sh_Y o f s k st va M → (∀ i, i < 16 → o i = -1 → bt M i = true) → sh_P o f s st va M r j →
      wY_settle_66 post J x2 (n + 1) M (nI j) df o f s k st va os ov := by
  intro n
  induction n with
  | zero =>
    intro j M st va hj hY hC hP
    have e : j = 16 := by omega
    rw [e] at hP
    exact br_t (nI_le (a := 16) (by omega) (by omega)) (nm_e (H M st va hY hC hP))
  | succ n ih =>
    intro j M st va hj hY hC hP
    have hj16 : j < 16 := by omega
    refine br_f (nI_ge (b := 16) hj16 (by decide)) ?_
    by_cases hM : bt M j = true
    · exact br_f (sh_t0 hj16 hM) (nm_r (nI_1 j) (ih (j + 1) M st va (by omega) hY hC (sh_P_keep hP (fun z => absurd hM z))))
    · refine br_t (sh_f0 hj16 hM) (ys_wants hj16 (W j hj16) ?_)
      by_cases hn : sh_N o f s st va j &&& (M ^^^ (-1)) = 0
      · have hva : va j = 0 := by
          obtain ⟨rk, g⟩ := hY
          exact ((g j hj16).2 hM).2
        refine br_t hn (ys_evaluate hj16 (W j hj16) hva (fun z => hM (hC j hj16 z)) ?_)
        exact nm_e (nm_r (nI_1 j) (ih (j + 1) _ _ _ (by omega) (sh_Y_step W hY hj16 hM hn) (fun i hi z => sh_or_t.mpr (Or.inl (hC i hi z))) (sh_P_add hP hj16 hM hn)))
      · exact br_f hn (nm_r (nI_1 j) (ih (j + 1) M st va (by omega) hY hC (sh_P_keep hP (fun _ => hn))))
theorem ys_settle_58 (W : sh_W o f s) {post : SY → Prop} (H : ∀ st va : Nat → Int32, sh_G o f s k st va → post (df, o, f, s, k, st, va, os, ov)) :
    ∀ (n r : Nat) (M : Int32) (st va : Nat → Int32), r + n = 16 → sh_Y o f s k st va M → (∀ i, i < 16 → o i = -1 → bt M i = true) → sh_P o f s st va M r 0 →
      wY_settle_58 post (n + 1) M (nI r) df o f s k st va os ov := by
  intro n
  induction n with
  | zero =>
    intro r M st va hr hY hC hP
    have e : r = 16 := by omega
    rw [e] at hP
    exact br_t (nI_le (a := 16) (by omega) (by omega)) (H st va (sh_Y_end W hY (sh_P_end hP)))
  | succ n ih =>
    intro r M st va hr hY hC hP
    refine br_f (nI_ge (b := 16) (by omega) (by decide)) ⟨17, ys_settle_66 W (fun M' st' va' hY' hC' hP' => ?_) 16 0 M st va rfl hY hC hP⟩
    rw [nI_1]
    exact ih (r + 1) M' st' va' (by omega) hY' hC' (sh_P_next hP')
theorem ys_settle_4 (W : sh_W o f s) {post : SY → Prop} (H : ∀ st va : Nat → Int32, sh_G o f s k st va → post (df, o, f, s, k, st, va, os, ov)) :
    ∀ (n j : Nat) (M : Int32) (st va : Nat → Int32), j + n = 16 → (∀ i, i < j → (o i = -1 → bt M i = true ∧ st i = 0 ∧ va i = k i) ∧ (¬ o i = -1 → ¬ bt M i = true ∧ st i = 3 ∧ va i = 0)) → (∀ i, j ≤ i → ¬ bt M i = true) →
      wY_settle_4 post (n + 1) M (nI j) df o f s k st va os ov := by
  intro n
  induction n with
  | zero =>
    intro j M st va hj h _
    have e : j = 16 := by omega
    rw [e] at h
    refine br_t (nI_le (a := 16) (by omega) (by omega)) ⟨17, ys_settle_58 W H 16 0 M st va rfl ⟨fun _ => 0, fun i hi => ⟨fun hb => ?_, fun hb => ?_⟩⟩ (fun i hi z => ((h i hi).1 z).1) (Or.inr (Or.inl ⟨Nat.zero_le _, fun c hc => absurd hc (Nat.not_lt_zero c)⟩))⟩
    · by_cases z : o i = -1
      · obtain ⟨-, h1, h2⟩ := (h i hi).1 z
        refine ⟨by rw [h1]; decide, fun d hd hbd => ?_, ?_, ?_⟩
        · unfold sh_N at hbd
          rw [z, sh_n_m1, b_0] at hbd
          cases hbd
        · unfold sh_E; rw [z, sh_e_m1]; exact h1
        · unfold sh_E; rw [z, sh_e_m1]; exact h2
      · exact absurd hb ((h i hi).2 z).1
    · by_cases z : o i = -1
      · exact absurd ((h i hi).1 z).1 hb
      · exact ((h i hi).2 z).2
  | succ n ih =>
    intro j M st va hj h hM
    have hj16 : j < 16 := by omega
    have ecl : (nI j).toNatClampNeg = j := nI_clamp (by omega)
    have hin : vp_in (nI j) 16 := vp_in_nI hj16 (by decide)
    refine br_f (nI_ge (b := 16) hj16 (by decide)) ⟨hin, nm_r (e' := upd st j 3) (by rw [ecl]) ⟨hin, nm_r (e' := upd va j 0) (by rw [ecl]) ⟨hin, ?_⟩⟩⟩
    rw [ecl]
    by_cases z : o j = -1
    · refine br_f (by rw [z]; decide) ⟨hin, ys_number hj16 ?_⟩
      refine nm_e (nm_r (nI_1 j) ?_)
      rw [sh_uu, sh_uu]
      refine ih (j + 1) _ _ _ (by omega) (fun i hi => ?_) (fun i hi => ?_)
      · by_cases y : i = j
        · rw [y, pk_us, pk_us]
          exact ⟨fun _ => ⟨sh_or_t.mpr (Or.inr ((sh_sb_t (by omega)).mpr rfl)), rfl, rfl⟩, fun w => absurd z w⟩
        · rw [pk_un y, pk_un y]
          have hb : bt (M ||| sh_sb (nI j)) i = true ↔ bt M i = true := by
            rw [sh_or_t, sh_sb_t (by omega)]
            constructor
            · rintro (w | w)
              · exact w
              · exact absurd w y
            · exact Or.inl
          have hh := h i (by omega)
          exact ⟨fun w => ⟨hb.mpr (hh.1 w).1, (hh.1 w).2⟩, fun w => ⟨fun q => (hh.2 w).1 (hb.mp q), (hh.2 w).2⟩⟩
      · show ¬ bt (M ||| sh_sb (nI j)) i = true
        rw [sh_or_t, sh_sb_t (by omega)]
        rintro (w | w)
        · exact hM i (by omega) w
        · omega
    · have h0 : 0 ≤ o j := by
        rcases W j hj16 with ⟨y, -, -⟩ | ⟨y, -, -⟩ | ⟨y, -, -⟩ | ⟨y, -, -, -⟩ | ⟨y, -, -⟩ | ⟨y, -, -⟩
        · exact absurd y z
        · rw [y]; decide
        · rw [y]; decide
        · rw [y]; decide
        · rw [y]; decide
        · rcases y with y | y | y | y | y <;> rw [y] <;> decide
      refine br_t h0 (nm_r (nI_1 j) (ih (j + 1) M _ _ (by omega) (fun i hi => ?_) (fun i hi => hM i (by omega))))
      by_cases y : i = j
      · rw [y, pk_us, pk_us]
        exact ⟨fun w => absurd w z, fun _ => ⟨hM j (by omega), rfl, rfl⟩⟩
      · rw [pk_un y, pk_un y]; exact h i (by omega)
theorem ys_settle {st va : Nat → Int32} (W : sh_W o f s) {post : SY → Prop} (H : ∀ st va : Nat → Int32, sh_G o f s k st va → post (df, o, f, s, k, st, va, os, ov)) :
    wpY_settle post (df, o, f, s, k, st, va, os, ov) :=
  ⟨17, ys_settle_4 W H 16 0 0 st va rfl (fun i hi => absurd hi (Nat.not_lt_zero i)) (fun i _ => by rw [b_0]; exact fun z => by cases z)⟩
end
section
variable {df : Int32} {o f s k st va : Nat → Int32}
theorem ys_before_6 {post : SY → Prop} (H : ∀ os ov : Nat → Int32, (∀ i, i < 16 → os i = st i ∧ ov i = va i) → post (df, o, f, s, k, st, va, os, ov)) :
    ∀ (n j : Nat) (os ov : Nat → Int32), j + n = 16 → (∀ i, i < j → os i = st i ∧ ov i = va i) → wY_before_6 post df (n + 1) (nI j) o f s k st va os ov := by
  intro n
  induction n with
  | zero =>
    intro j os ov hj h
    have e : j = 16 := by omega
    rw [e] at h
    exact br_t (nI_le (a := 16) (by omega) (by omega)) (H os ov h)
  | succ n ih =>
    intro j os ov hj h
    have hj16 : j < 16 := by omega
    have ecl : (nI j).toNatClampNeg = j := nI_clamp (by omega)
    have hin : vp_in (nI j) 16 := vp_in_nI hj16 (by decide)
    refine br_f (nI_ge (b := 16) hj16 (by decide)) ⟨hin, hin, nm_r (e' := upd os j (st j)) (by rw [ecl]) ⟨hin, hin, nm_r (e' := upd ov j (va j)) (by rw [ecl]) (nm_r (nI_1 j) (ih (j + 1) _ _ (by omega) (fun i hi => ?_)))⟩⟩
    by_cases z : i = j
    · rw [z, pk_us, pk_us]; exact ⟨rfl, rfl⟩
    · rw [pk_un z, pk_un z]; exact h i (by omega)
theorem ys_before {os ov : Nat → Int32} (W : sh_W o f s) {post : SY → Prop}
    (H : ∀ st va os ov : Nat → Int32, sh_G o f s k st va → (∀ i, i < 16 → os i = st i ∧ ov i = va i) → post (df, o, f, s, k, st, va, os, ov)) : wpY_before post (df, o, f, s, k, st, va, os, ov) := by
  unfold wpY_before
  dsimp only
  exact ys_settle W (fun st' va' hG => ⟨17, ys_before_6 (fun os' ov' h => H st' va' os' ov' hG h) 16 0 os ov rfl (fun i hi => absurd hi (Nat.not_lt_zero i))⟩)
theorem ys_c56 {os ov : Nat → Int32} {post : SY → Prop} {J : Int32 → Int32 → Prop} {j : Nat} (h : J (nI (j + 1)) df) : wY_compare_56 post J (nI j) df o f s k st va os ov := by
  unfold wY_compare_56 wY_compare_61
  exact br_f (by decide) (nm_r (nI_1 j) h)
theorem ys_c60 {os ov : Nat → Int32} {post : SY → Prop} {J : Int32 → Int32 → Prop} {j : Nat} (h : J (nI (j + 1)) (df ||| sh_sb (nI j))) : wY_compare_60 post J (nI j) df o f s k st va os ov := by
  unfold wY_compare_60 wY_compare_61
  exact br_t rfl (nm_e (nm_r (nI_1 j) h))
theorem ys_compare_11 {os ov : Nat → Int32} {post : SY → Prop} : ∀ (n j : Nat) (x : Int32), j + n = 16 → post (sh_df st va os ov n x, o, f, s, k, st, va, os, ov) →
    wY_compare_11 post o f s k st va os ov (n + 1) (nI j) x := by
  intro n
  induction n with
  | zero =>
    intro j x hj h
    exact br_t (nI_le (a := 16) (by omega) (by omega)) h
  | succ n ih =>
    intro j x hj h
    have hj16 : j < 16 := by omega
    have ecl : (nI j).toNatClampNeg = j := nI_clamp (by omega)
    have ej : 15 - n = j := by omega
    have hin : vp_in (nI j) 16 := vp_in_nI hj16 (by decide)
    unfold sh_df at h
    rw [ej] at h
    refine br_f (nI_ge (b := 16) hj16 (by decide)) ⟨hin, hin, ?_⟩
    rw [ecl]
    by_cases h1 : st j = os j
    · refine br_t h1 ⟨hin, ?_⟩
      by_cases h2 : st j = 0
      · refine br_t h2 ⟨hin, hin, ?_⟩
        by_cases h3 : va j = ov j
        · rw [if_pos ⟨h1, fun _ => h3⟩] at h
          exact br_t h3 (ys_c56 (ih (j + 1) x (by omega) h))
        · rw [if_neg (fun z => h3 (z.2 h2))] at h
          exact br_f h3 (ys_c60 (ih (j + 1) _ (by omega) h))
      · rw [if_pos ⟨h1, fun z => absurd z h2⟩] at h
        exact br_f h2 (ys_c56 (ih (j + 1) x (by omega) h))
    · rw [if_neg (fun z => h1 z.1)] at h
      exact br_f h1 (ys_c60 (ih (j + 1) _ (by omega) h))
theorem ys_compare {os ov : Nat → Int32} (W : sh_W o f s) {post : SY → Prop} (H : ∀ st va : Nat → Int32, sh_G o f s k st va → post (sh_df st va os ov 16 0, o, f, s, k, st, va, os, ov)) :
    wpY_compare post (df, o, f, s, k, st, va, os, ov) := by
  unfold wpY_compare
  dsimp only
  exact ys_settle W (fun st' va' hG => ⟨17, ys_compare_11 16 0 0 rfl (H st' va' hG)⟩)
theorem ys_hold {os ov : Nat → Int32} {post : SY → Prop} {c : Nat} {p a b a1 b1 : Int32} (hc : c < 16) (hcf : sh_cf p a1 b1) (ha : a1 = if p < 0 ∨ p = 8 then 0 else a) (hb : b1 = if p < 0 ∨ p = 8 ∨ p = 6 then 0 else b)
    (h : post (df, upd o c p, upd f c a1, upd s c b1, k, st, va, os, ov)) : wpY_hold post (df, o, f, s, k, st, va, os, ov) (nI c) p a b := by
  have hi : vp_in (nI c) 16 := vp_in_nI hc (by decide)
  have hcl : (nI c).toNatClampNeg = c := nI_clamp (by omega)
  unfold wpY_hold wY_hold_22 wY_hold_27
  dsimp only
  rw [hcl]
  refine ⟨hi, nm_e ?_⟩
  by_cases h1 : p < 0
  · rw [if_pos (Or.inl h1)] at ha hb
    rw [ha, hb] at h
    exact br_t h1 ⟨hi, nm_e (br_t h1 ⟨hi, nm_e h⟩)⟩
  · by_cases h2 : p = 8
    · rw [if_pos (Or.inr h2)] at ha
      rw [if_pos (Or.inr (Or.inl h2))] at hb
      rw [ha, hb] at h
      exact br_f h1 (br_t h2 ⟨hi, nm_e (br_f h1 (br_t h2 ⟨hi, nm_e h⟩))⟩)
    · rw [if_neg (fun z => z.elim h1 h2)] at ha
      rw [ha] at h
      refine br_f h1 (br_f h2 ⟨hi, nm_e (br_f h1 (br_f h2 ?_))⟩)
      by_cases h3 : p = 6
      · rw [if_pos (Or.inr (Or.inr h3))] at hb
        rw [hb] at h
        exact br_t h3 ⟨hi, nm_e h⟩
      · rw [if_neg (fun z => z.elim h1 (fun y => y.elim h2 h3))] at hb
        rw [hb] at h
        exact br_f h3 ⟨hi, nm_e h⟩
end
end
section
/-- the relation at the head of a turn -/
def i_Rel (k : Nat) (u : SX) (v : SY) : Prop := match u, v with
  | (ch, o, f, s, kx, st, va, m, sk, os, ov), (df, o', f', s', ky, st', va', os', ov') =>
    df = ch ∧ o' = o ∧ f' = f ∧ s' = s ∧ sh_W o f s ∧ (∀ i, i < 16 → o i = -1 → ky i = kx i) ∧ sh_G o f s kx st va ∧ (∀ i, i < 16 → sh_rg (st i)) ∧ (∀ i, i < 16 → m i = 0)
theorem zz_in {k : Nat} {ch : Int32} {o f s kx st va m sk os ov ky st' va' os' ov' : Nat → Int32} (W : sh_W o f s) (hk : ∀ i, i < 16 → o i = -1 → ky i = kx i) (G : sh_G o f s kx st va)
    (hr : ∀ i, i < 16 → sh_rg (st i)) (hm : ∀ i, i < 16 → m i = 0) : i_Rel k (ch, o, f, s, kx, st, va, m, sk, os, ov) (ch, o, f, s, ky, st', va', os', ov') :=
  ⟨rfl, rfl, rfl, rfl, W, hk, G, hr, hm⟩
theorem zz_el {k : Nat} {u : SX} {v : SY} {P : SX → SY → Prop}
    (h : ∀ (ch : Int32) (o f s kx st va m sk os ov ky st' va' os' ov' : Nat → Int32), sh_W o f s → (∀ i, i < 16 → o i = -1 → ky i = kx i) → sh_G o f s kx st va → (∀ i, i < 16 → sh_rg (st i)) → (∀ i, i < 16 → m i = 0) →
      P (ch, o, f, s, kx, st, va, m, sk, os, ov) (ch, o, f, s, ky, st', va', os', ov')) (I : i_Rel k u v) : P u v := by
  obtain ⟨ch, o, f, s, kx, st, va, m, sk, os, ov⟩ := u
  obtain ⟨df, o', f', s', ky, st', va', os', ov'⟩ := v
  obtain ⟨e1, e2, e3, e4, W, hk, G, hr, hm⟩ := I
  rw [e1, e2, e3, e4]
  exact h ch o f s kx st va m sk os ov ky st' va' os' ov' W hk G hr hm
theorem i_up {k : Nat} {u : SX} {v : SY} (h : i_Rel k u v) : i_Rel (k + 5) u v := h
def zz_o : Nat → Nat → Int32
  | 0 => fun _ => 0
  | j + 1 => upd (zz_o j) j (-1)
theorem zz_o_lt : ∀ j i, i < j → zz_o j i = -1 := by
  intro j
  induction j with
  | zero => intro i hi; omega
  | succ j ih =>
    intro i hi
    show upd (zz_o j) j (-1) i = -1
    by_cases z : i = j
    · rw [z, pk_us]
    · rw [pk_un z]; exact ih i (by omega)
theorem zz_X0 {post : SX → Prop} {ch : Int32} {f s k st va m sk os ov : Nat → Int32} (h : post (ch, zz_o 16, f, s, k, st, va, m, sk, os, ov)) :
    ∀ n j, j + n = 16 → wX_init_86 post ch (n + 1) (nI j) (zz_o j) f s k st va m sk os ov := by
  intro n
  induction n with
  | zero =>
    intro j hj
    have e : j = 16 := by omega
    rw [e]
    exact br_t (nI_le (a := 16) (by omega) (by omega)) h
  | succ n ih =>
    intro j hj
    refine br_f (nI_ge (b := 16) (by omega) (by decide)) ⟨vp_in_nI (by omega) (by decide), nm_r (e' := zz_o (j + 1)) ?_ (nm_r (nI_1 j) (ih (j + 1) (by omega)))⟩
    rw [nI_clamp (by omega), show vp_nar .byte (-1) = -1 by rw [vp_nar_byte]; decide]
    rfl
theorem zz_Y0 {post : SY → Prop} {ch : Int32} {f s k st va os ov : Nat → Int32} (h : post (ch, zz_o 16, f, s, k, st, va, os, ov)) :
    ∀ n j, j + n = 16 → wY_init_70 post ch (n + 1) (nI j) (zz_o j) f s k st va os ov := by
  intro n
  induction n with
  | zero =>
    intro j hj
    have e : j = 16 := by omega
    rw [e]
    exact br_t (nI_le (a := 16) (by omega) (by omega)) h
  | succ n ih =>
    intro j hj
    refine br_f (nI_ge (b := 16) (by omega) (by decide)) ⟨vp_in_nI (by omega) (by decide), nm_r (e' := zz_o (j + 1)) ?_ (nm_r (nI_1 j) (ih (j + 1) (by omega)))⟩
    rw [nI_clamp (by omega)]
    rfl
theorem zz_W0 : sh_W (zz_o 16) (fun _ => 0) (fun _ => 0) := fun i hi => Or.inl ⟨zz_o_lt 16 i hi, rfl, rfl⟩
theorem zz_G0 : sh_G (zz_o 16) (fun _ => 0) (fun _ => 0) (fun _ => 0) (fun _ => 0) (fun _ => 0) := by
  refine ⟨fun _ => 0, fun i hi => Or.inl ⟨fun (z : (0 : Int32) = 3) => absurd z (by decide), fun d hd hb => ?_, ?_, ?_⟩⟩
  · unfold sh_N at hb
    rw [zz_o_lt 16 i hi, sh_n_m1, b_0] at hb
    cases hb
  · unfold sh_E; rw [zz_o_lt 16 i hi, sh_e_m1]
  · unfold sh_E; rw [zz_o_lt 16 i hi, sh_e_m1]
theorem i_vc0 : wpX_init (fun u => wpY_init (fun v => i_Rel 0 u v)) := by
  refine ⟨17, zz_X0 ?_ 16 0 rfl⟩
  refine ⟨17, zz_Y0 ?_ 16 0 rfl⟩
  exact zz_in zz_W0 (fun _ _ _ => rfl) zz_G0 (fun _ _ => Or.inl rfl) (fun _ _ => rfl)
theorem i_vc_changed {k : Nat} {u : SX} {v : SY} (I : i_Rel k u v) (hk : k + 5 ≤ 2560) : wpX_changed (fun r => wpY_changed (fun r' => r' = r ∧ i_Rel (k + 5) u v) v) u := by
  refine zz_el (P := fun u v => wpX_changed (fun r => wpY_changed (fun r' => r' = r ∧ i_Rel (k + 5) u v) v) u) ?_ I
  intro ch o f s kx st va m sk os ov ky st' va' os' ov' W hk G hr hm
  exact ⟨rfl, zz_in W hk G hr hm⟩
theorem i_vc_operation {k : Nat} {u : SX} {v : SY} (I : i_Rel k u v) (hk : k + 5 ≤ 2560) (v1 : Int32) : wpX_operation (fun r => wpY_operation (fun r' => r' = r ∧ i_Rel (k + 5) u v) v v1) u v1 := by
  refine zz_el (P := fun u v => wpX_operation (fun r => wpY_operation (fun r' => r' = r ∧ i_Rel (k + 5) u v) v v1) u v1) ?_ I
  intro ch o f s kx st va m sk os ov ky st' va' os' ov' W hk G hr hm
  unfold wpX_operation wpY_operation
  dsimp only
  have R : i_Rel (k + 5) (ch, o, f, s, kx, st, va, m, sk, os, ov) (ch, o, f, s, ky, st', va', os', ov') := zz_in W hk G hr hm
  rcases pk_ix v1 (n := 16) (by decide) with h | h | ⟨c, hc, rfl⟩
  · exact xs_is0 (Or.inl h) (br_t rfl (ys_is0 (Or.inl h) (br_t rfl ⟨rfl, R⟩)))
  · exact xs_is0 (Or.inr h) (br_t rfl (ys_is0 (Or.inr h) (br_t rfl ⟨rfl, R⟩)))
  · have hi : vp_in (nI c) 16 := vp_in_nI hc (by decide)
    exact xs_is1 hc (br_f (by decide) ⟨hi, ys_is1 hc (br_f (by decide) ⟨hi, rfl, R⟩)⟩)
theorem i_vc_operand {k : Nat} {u : SX} {v : SY} (I : i_Rel k u v) (hk : k + 5 ≤ 2560) (v1 : Int32) (v2 : Int32) : wpX_operand (fun r => wpY_operand (fun r' => r' = r ∧ i_Rel (k + 5) u v) v v1 v2) u v1 v2 := by
  refine zz_el (P := fun u v => wpX_operand (fun r => wpY_operand (fun r' => r' = r ∧ i_Rel (k + 5) u v) v v1 v2) u v1 v2) ?_ I
  intro ch o f s kx st va m sk os ov ky st' va' os' ov' W hk G hr hm
  unfold wpX_operand wpY_operand
  dsimp only
  have R : i_Rel (k + 5) (ch, o, f, s, kx, st, va, m, sk, os, ov) (ch, o, f, s, ky, st', va', os', ov') := zz_in W hk G hr hm
  rcases pk_ix v1 (n := 16) (by decide) with h | h | ⟨c, hc, rfl⟩
  · exact xs_is0 (Or.inl h) (br_t rfl (ys_is0 (Or.inl h) (br_t rfl ⟨rfl, R⟩)))
  · exact xs_is0 (Or.inr h) (br_t rfl (ys_is0 (Or.inr h) (br_t rfl ⟨rfl, R⟩)))
  · have hi : vp_in (nI c) 16 := vp_in_nI hc (by decide)
    have hcl : (nI c).toNatClampNeg = c := nI_clamp (by omega)
    rw [hcl]
    refine xs_is1 hc (br_f (by decide) ⟨hi, ?_⟩)
    by_cases h0 : o c < 0
    · exact br_t h0 (ys_is1 hc (br_f (by decide) ⟨hi, br_t h0 ⟨rfl, R⟩⟩))
    · refine br_f h0 ?_
      by_cases h1 : v2 = 0
      · refine br_f (by rw [h1]; decide) (br_t (by rw [h1]; decide) (br_t h1 ⟨hi, ys_is1 hc (br_f (by decide) ⟨hi, br_f h0 (br_t h1 ?_)⟩)⟩))
        unfold wY_operand_28
        rw [hcl]
        exact br_t h1 ⟨hi, rfl, R⟩
      · by_cases h2 : v2 = 1
        · refine br_f (by rw [h2]; decide) (br_t (by rw [h2]; decide) (br_f h1 ⟨hi, ys_is1 hc (br_f (by decide) ⟨hi, br_f h0 (br_f h1 (br_t h2 ?_))⟩)⟩))
          unfold wY_operand_28
          rw [hcl]
          exact br_f h1 ⟨hi, rfl, R⟩
        · have hY : wpY_is (fun r_1 => (r_1 = 0 → (-1 : Int32) = -1 ∧ i_Rel (k + 5) (ch, o, f, s, kx, st, va, m, sk, os, ov) (ch, o, f, s, ky, st', va', os', ov')) ∧
              (¬ r_1 = 0 → vp_in (nI c) 16 ∧ (o c < 0 → (-1 : Int32) = -1 ∧ i_Rel (k + 5) (ch, o, f, s, kx, st, va, m, sk, os, ov) (ch, o, f, s, ky, st', va', os', ov')) ∧
                (¬ o c < 0 → (v2 = 0 → wY_operand_28 (fun r' => r' = -1 ∧ i_Rel (k + 5) (ch, o, f, s, kx, st, va, m, sk, os, ov) (ch, o, f, s, ky, st', va', os', ov')) (nI c) v2 ch o f s ky st' va' os' ov') ∧
                  (¬ v2 = 0 → (v2 = 1 → wY_operand_28 (fun r' => r' = -1 ∧ i_Rel (k + 5) (ch, o, f, s, kx, st, va, m, sk, os, ov) (ch, o, f, s, ky, st', va', os', ov')) (nI c) v2 ch o f s ky st' va' os' ov') ∧
                    (¬ v2 = 1 → (-1 : Int32) = -1 ∧ i_Rel (k + 5) (ch, o, f, s, kx, st, va, m, sk, os, ov) (ch, o, f, s, ky, st', va', os', ov')))))) (ch, o, f, s, ky, st', va', os', ov') (nI c) :=
            ys_is1 hc (br_f (by decide) ⟨hi, br_f h0 (br_f h1 (br_f h2 ⟨rfl, R⟩))⟩)
          by_cases h3 : v2 < 0
          · exact br_t h3 hY
          · refine br_f h3 (br_f (fun z => ?_) hY)
            rw [Int32.le_iff_toInt_le] at z
            rw [Int32.lt_iff_toInt_lt] at h3
            have e0 : (0 : Int32).toInt = 0 := by decide
            have e1 : (1 : Int32).toInt = 1 := by decide
            have a0 : ¬ v2.toInt = 0 := fun w => h1 (Int32.toInt_inj.mp (by rw [w, e0]))
            have a1 : ¬ v2.toInt = 1 := fun w => h2 (Int32.toInt_inj.mp (by rw [w, e1]))
            omega
end
section
theorem sh_e_v {o a b k : Int32} {st va : Nat → Int32} (h : sh_cf o a b) (h0 : ¬ (sh_e o a b k st va).1 = 0) : (sh_e o a b k st va).2 = 0 := by
  rcases h with ⟨rfl, -, -⟩ | ⟨rfl, -, -⟩ | ⟨rfl, -, -⟩ | ⟨rfl, -, -, -⟩ | ⟨rfl, -, -⟩ | ⟨h2, -, -⟩
  · rw [sh_e_m1] at h0; exact absurd rfl h0
  · rw [sh_e_8]
  · rw [sh_e_6] at h0; exact absurd rfl h0
  · rw [sh_e_4] at h0 ⊢
    unfold sh_e4 at h0 ⊢
    by_cases h1 : st a.toNatClampNeg = 0
    · rw [if_pos h1] at h0 ⊢
      by_cases h2 : sh_tg (va a.toNatClampNeg) b < 0
      · rw [if_pos h2]
      · rw [if_neg h2] at h0 ⊢
        by_cases h3 : st (sh_tg (va a.toNatClampNeg) b).toNatClampNeg = 0
        · rw [if_pos h3] at h0; exact absurd rfl h0
        · rw [if_neg h3]
    · rw [if_neg h1]
  · rw [sh_e_5] at h0 ⊢
    unfold sh_e5 at h0 ⊢
    by_cases h1 : sh_fe st (sh_sp a b) 16 = 0
    · rw [if_pos h1] at h0; exact absurd rfl h0
    · rw [if_neg h1]
  · rw [sh_e_2 h2] at h0 ⊢
    unfold sh_e2 at h0 ⊢
    by_cases h1 : st a.toNatClampNeg = 0
    · rw [if_pos h1] at h0 ⊢
      by_cases h3 : st b.toNatClampNeg = 0
      · rw [if_pos h3] at h0 ⊢
        by_cases h4 : o = 3 ∧ va b.toNatClampNeg = 0
        · rw [if_pos h4]
        · rw [if_neg h4] at h0; exact absurd rfl h0
      · rw [if_neg h3]
    · rw [if_neg h1]
theorem sh_G_v {o f s k st va : Nat → Int32} (W : sh_W o f s) (G : sh_G o f s k st va) {i : Nat} (hi : i < 16) (h0 : ¬ st i = 0) : va i = 0 := by
  obtain ⟨rk, g⟩ := G
  rcases g i hi with a | a
  · rw [a.2.2.2]
    exact sh_e_v (W i hi) (by have := a.2.2.1; unfold sh_E at this; rw [← this]; exact h0)
  · exact a.2.1
def sh_cc (st : Nat → Int32) : Nat → Int32 → Int32
  | 0 => fun x => x
  | n + 1 => fun x => sh_cc st n (if st (15 - n) = 3 then x ||| sh_sb (nI (15 - n)) else x)
def sh_cn (st : Nat → Int32) (v : Int32) : Nat → Int32 → Int32
  | 0 => fun x => x
  | n + 1 => fun x => sh_cn st v n (if st (15 - n) = v then x + 1 else x)
theorem sh_cc_c {st st' : Nat → Int32} (H : ∀ i, i < 16 → st' i = st i) : ∀ n, n ≤ 16 → ∀ x, sh_cc st' n x = sh_cc st n x := by
  intro n
  induction n with
  | zero => intro _ _; rfl
  | succ n ih =>
    intro hn x
    unfold sh_cc
    rw [ih (by omega), H (15 - n) (by omega)]
theorem sh_cn_c {st st' : Nat → Int32} {v : Int32} (H : ∀ i, i < 16 → st' i = st i) : ∀ n, n ≤ 16 → ∀ x, sh_cn st' v n x = sh_cn st v n x := by
  intro n
  induction n with
  | zero => intro _ _; rfl
  | succ n ih =>
    intro hn x
    unfold sh_cn
    rw [ih (by omega), H (15 - n) (by omega)]
section
variable {ch df : Int32} {o f s k st va m sk os ov : Nat → Int32}
theorem xs_circ {post : Int32 → Prop} : ∀ (n j : Nat) (x : Int32), j + n = 16 → post (sh_cc st n x) → wX_circular_4 post ch o f s k st va m sk os ov (n + 1) x (nI j) := by
  intro n
  induction n with
  | zero =>
    intro j x hj h
    exact br_t (nI_le (a := 16) (by omega) (by omega)) h
  | succ n ih =>
    intro j x hj h
    have hj16 : j < 16 := by omega
    have ecl : (nI j).toNatClampNeg = j := nI_clamp (by omega)
    have ej : 15 - n = j := by omega
    have hin : vp_in (nI j) 16 := vp_in_nI hj16 (by decide)
    unfold sh_cc at h
    rw [ej] at h
    refine br_f (nI_ge (b := 16) hj16 (by decide)) ⟨hin, ?_⟩
    rw [ecl]
    by_cases hb : st j = 3
    · rw [if_pos hb] at h
      exact br_t hb (nm_e (nm_r (nI_1 j) (ih (j + 1) _ (by omega) h)))
    · rw [if_neg hb] at h
      exact br_f hb (nm_r (e' := x) (by rw [Int32.or_zero]) (nm_r (nI_1 j) (ih (j + 1) _ (by omega) h)))
theorem ys_circ {post : Int32 → SY → Prop} : ∀ (n j : Nat) (x : Int32), j + n = 16 → post (sh_cc st n x) (df, o, f, s, k, st, va, os, ov) → wY_circular_8 post df o f s k st va os ov (n + 1) x (nI j) := by
  intro n
  induction n with
  | zero =>
    intro j x hj h
    exact br_t (nI_le (a := 16) (by omega) (by omega)) h
  | succ n ih =>
    intro j x hj h
    have hj16 : j < 16 := by omega
    have ecl : (nI j).toNatClampNeg = j := nI_clamp (by omega)
    have ej : 15 - n = j := by omega
    have hin : vp_in (nI j) 16 := vp_in_nI hj16 (by decide)
    unfold sh_cc at h
    rw [ej] at h
    refine br_f (nI_ge (b := 16) hj16 (by decide)) ⟨hin, ?_⟩
    rw [ecl]
    by_cases hb : st j = 3
    · rw [if_pos hb] at h
      exact br_t hb (nm_e (nm_r (nI_1 j) (ih (j + 1) _ (by omega) h)))
    · rw [if_neg hb] at h
      exact br_f hb (nm_r (nI_1 j) (ih (j + 1) _ (by omega) h))
theorem xs_cnt {post : Int32 → Prop} {v : Int32} : ∀ (n j : Nat) (x : Int32), j + n = 16 → post (sh_cn st v n x) → wX_count_4 post v ch o f s k st va m sk os ov (n + 1) x (nI j) := by
  intro n
  induction n with
  | zero =>
    intro j x hj h
    exact br_t (nI_le (a := 16) (by omega) (by omega)) h
  | succ n ih =>
    intro j x hj h
    have hj16 : j < 16 := by omega
    have ecl : (nI j).toNatClampNeg = j := nI_clamp (by omega)
    have ej : 15 - n = j := by omega
    have hin : vp_in (nI j) 16 := vp_in_nI hj16 (by decide)
    unfold sh_cn at h
    rw [ej] at h
    refine br_f (nI_ge (b := 16) hj16 (by decide)) ⟨hin, ?_⟩
    rw [ecl]
    by_cases hb : st j = v
    · rw [if_pos hb] at h
      exact br_t hb (nm_e (nm_r (nI_1 j) (ih (j + 1) _ (by omega) h)))
    · rw [if_neg hb] at h
      exact br_f hb (nm_r (e' := x) (by rw [Int32.add_zero]) (nm_r (nI_1 j) (ih (j + 1) _ (by omega) h)))
theorem ys_cnt {post : Int32 → SY → Prop} {v : Int32} : ∀ (n j : Nat) (x : Int32), j + n = 16 → post (sh_cn st v n x) (df, o, f, s, k, st, va, os, ov) → wY_count_8 post v df o f s k st va os ov (n + 1) x (nI j) := by
  intro n
  induction n with
  | zero =>
    intro j x hj h
    exact br_t (nI_le (a := 16) (by omega) (by omega)) h
  | succ n ih =>
    intro j x hj h
    have hj16 : j < 16 := by omega
    have ecl : (nI j).toNatClampNeg = j := nI_clamp (by omega)
    have ej : 15 - n = j := by omega
    have hin : vp_in (nI j) 16 := vp_in_nI hj16 (by decide)
    unfold sh_cn at h
    rw [ej] at h
    refine br_f (nI_ge (b := 16) hj16 (by decide)) ⟨hin, ?_⟩
    rw [ecl]
    by_cases hb : st j = v
    · rw [if_pos hb] at h
      exact br_t hb (nm_e (nm_r (nI_1 j) (ih (j + 1) _ (by omega) h)))
    · rw [if_neg hb] at h
      exact br_f hb (nm_r (nI_1 j) (ih (j + 1) _ (by omega) h))
theorem ys_reach_27 (W : sh_W o f s) {post : Int32 → SY → Prop} {J4 : Int32 → Int32 → Prop} {x1 x3 : Int32} : ∀ (n j : Nat) (x : Int32), j + n = 16 →
    J4 (sh_ri (sh_N o f s st va) (sh_sb x1) n x) (x3 + 1) → wY_reached_27 post J4 x1 x3 df o f s k st va os ov (n + 1) x (nI j) := by
  intro n
  induction n with
  | zero =>
    intro j x hj h
    exact br_t (nI_le (a := 16) (by omega) (by omega)) (nm_e h)
  | succ n ih =>
    intro j x hj h
    have ej : 15 - n = j := by omega
    unfold sh_ri at h
    rw [ej] at h
    refine br_f (nI_ge (b := 16) (by omega) (by decide)) (ys_wants (by omega) (W j (by omega)) ?_)
    by_cases hz : sh_N o f s st va j &&& (x ||| sh_sb x1) = 0
    · rw [if_pos hz] at h
      exact br_t hz (nm_r (nI_1 j) (ih (j + 1) x (by omega) h))
    · rw [if_neg hz] at h
      exact br_f hz (nm_e (nm_r (nI_1 j) (ih (j + 1) _ (by omega) h)))
theorem ys_reach_18 (W : sh_W o f s) {post : Int32 → SY → Prop} {x1 : Int32} : ∀ (n r : Nat) (x : Int32), r + n = 16 →
    post (sh_ro (sh_N o f s st va) (sh_sb x1) n x) (df, o, f, s, k, st, va, os, ov) → wY_reached_18 post x1 df o f s k st va os ov (n + 1) x (nI r) := by
  intro n
  induction n with
  | zero =>
    intro r x hr h
    exact br_t (nI_le (a := 16) (by omega) (by omega)) h
  | succ n ih =>
    intro r x hr h
    unfold sh_ro at h
    refine br_f (nI_ge (b := 16) (by omega) (by decide)) ⟨17, ys_reach_27 W 16 0 x rfl ?_⟩
    rw [nI_1]
    exact ih (r + 1) _ (by omega) h
end
theorem i_vc_state {k : Nat} {u : SX} {v : SY} (I : i_Rel k u v) (hk : k + 5 ≤ 2560) (v1 : Int32) : wpX_state (fun r => wpY_state (fun r' v' => r' = r ∧ i_Rel (k + 5) u v') v v1) u v1 := by
  refine zz_el (P := fun u v => wpX_state (fun r => wpY_state (fun r' v' => r' = r ∧ i_Rel (k + 5) u v') v v1) u v1) ?_ I
  intro ch o f s kx st va m sk os ov ky st' va' os' ov' W hk G hr hm
  unfold wpX_state wpY_state
  dsimp only
  have R : ∀ st2 va2 : Nat → Int32, i_Rel (k + 5) (ch, o, f, s, kx, st, va, m, sk, os, ov) (ch, o, f, s, ky, st2, va2, os', ov') := fun _ _ => zz_in W hk G hr hm
  have U : ∀ st2 va2 : Nat → Int32, sh_G o f s ky st2 va2 → ∀ i, i < 16 → st2 i = st i ∧ va2 i = va i := fun _ _ G2 => sh_uni W (sh_Gk W hk G) G2
  rcases pk_ix v1 (n := 16) (by decide) with h | h | ⟨c, hc, rfl⟩
  · exact xs_is0 (Or.inl h) (br_t rfl (ys_settle W (fun st2 va2 G2 => ys_is0 (Or.inl h) (br_t rfl ⟨rfl, R st2 va2⟩))))
  · exact xs_is0 (Or.inr h) (br_t rfl (ys_settle W (fun st2 va2 G2 => ys_is0 (Or.inr h) (br_t rfl ⟨rfl, R st2 va2⟩))))
  · have hi : vp_in (nI c) 16 := vp_in_nI hc (by decide)
    have hcl : (nI c).toNatClampNeg = c := nI_clamp (by omega)
    rw [hcl]
    exact xs_is1 hc (br_f (by decide) ⟨hi, ys_settle W (fun st2 va2 G2 => ys_is1 hc (br_f (by decide) ⟨hi, (U st2 va2 G2 c hc).1, R st2 va2⟩))⟩)
theorem i_vc_value {k : Nat} {u : SX} {v : SY} (I : i_Rel k u v) (hk : k + 5 ≤ 2560) (v1 : Int32) : wpX_value (fun r => wpY_value (fun r' v' => r' = r ∧ i_Rel (k + 5) u v') v v1) u v1 := by
  refine zz_el (P := fun u v => wpX_value (fun r => wpY_value (fun r' v' => r' = r ∧ i_Rel (k + 5) u v') v v1) u v1) ?_ I
  intro ch o f s kx st va m sk os ov ky st' va' os' ov' W hk G hr hm
  unfold wpX_value wpY_value
  dsimp only
  have R : ∀ st2 va2 : Nat → Int32, i_Rel (k + 5) (ch, o, f, s, kx, st, va, m, sk, os, ov) (ch, o, f, s, ky, st2, va2, os', ov') := fun _ _ => zz_in W hk G hr hm
  have U : ∀ st2 va2 : Nat → Int32, sh_G o f s ky st2 va2 → ∀ i, i < 16 → st2 i = st i ∧ va2 i = va i := fun _ _ G2 => sh_uni W (sh_Gk W hk G) G2
  rcases pk_ix v1 (n := 16) (by decide) with h | h | ⟨c, hc, rfl⟩
  · exact xs_is0 (Or.inl h) (br_t rfl (ys_settle W (fun st2 va2 G2 => ys_is0 (Or.inl h) (br_t rfl ⟨rfl, R st2 va2⟩))))
  · exact xs_is0 (Or.inr h) (br_t rfl (ys_settle W (fun st2 va2 G2 => ys_is0 (Or.inr h) (br_t rfl ⟨rfl, R st2 va2⟩))))
  · have hi : vp_in (nI c) 16 := vp_in_nI hc (by decide)
    have hcl : (nI c).toNatClampNeg = c := nI_clamp (by omega)
    rw [hcl]
    refine xs_is1 hc (br_f (by decide) ⟨hi, ys_settle W (fun st2 va2 G2 => ys_is1 hc (br_f (by decide) ⟨hi, ?_⟩))⟩)
    by_cases h0 : st2 c = 0
    · exact br_t h0 ⟨hi, (U st2 va2 G2 c hc).2, R st2 va2⟩
    · exact br_f h0 ⟨(sh_G_v W G hc (fun z => h0 (by rw [(U st2 va2 G2 c hc).1]; exact z))).symm, R st2 va2⟩
theorem i_vc_circular {k : Nat} {u : SX} {v : SY} (I : i_Rel k u v) (hk : k + 5 ≤ 2560) : wpX_circular (fun r => wpY_circular (fun r' v' => r' = r ∧ i_Rel (k + 5) u v') v) u := by
  refine zz_el (P := fun u v => wpX_circular (fun r => wpY_circular (fun r' v' => r' = r ∧ i_Rel (k + 5) u v') v) u) ?_ I
  intro ch o f s kx st va m sk os ov ky st' va' os' ov' W hk G hr hm
  unfold wpX_circular wpY_circular
  dsimp only
  have R : ∀ st2 va2 : Nat → Int32, i_Rel (k + 5) (ch, o, f, s, kx, st, va, m, sk, os, ov) (ch, o, f, s, ky, st2, va2, os', ov') := fun _ _ => zz_in W hk G hr hm
  have U : ∀ st2 va2 : Nat → Int32, sh_G o f s ky st2 va2 → ∀ i, i < 16 → st2 i = st i ∧ va2 i = va i := fun _ _ G2 => sh_uni W (sh_Gk W hk G) G2
  exact ⟨17, xs_circ 16 0 0 rfl (ys_settle W (fun st2 va2 G2 => ⟨17, ys_circ 16 0 0 rfl ⟨sh_cc_c (fun i hi => (U st2 va2 G2 i hi).1) 16 (by omega) 0, R st2 va2⟩⟩))⟩
theorem i_vc_needs {k : Nat} {u : SX} {v : SY} (I : i_Rel k u v) (hk : k + 5 ≤ 2560) (v1 : Int32) : wpX_needs (fun r => wpY_needs (fun r' v' => r' = r ∧ i_Rel (k + 5) u v') v v1) u v1 := by
  refine zz_el (P := fun u v => wpX_needs (fun r => wpY_needs (fun r' v' => r' = r ∧ i_Rel (k + 5) u v') v v1) u v1) ?_ I
  intro ch o f s kx st va m sk os ov ky st' va' os' ov' W hk G hr hm
  unfold wpX_needs wpY_needs
  dsimp only
  have R : ∀ st2 va2 : Nat → Int32, i_Rel (k + 5) (ch, o, f, s, kx, st, va, m, sk, os, ov) (ch, o, f, s, ky, st2, va2, os', ov') := fun _ _ => zz_in W hk G hr hm
  have U : ∀ st2 va2 : Nat → Int32, sh_G o f s ky st2 va2 → ∀ i, i < 16 → st2 i = st i ∧ va2 i = va i := fun _ _ G2 => sh_uni W (sh_Gk W hk G) G2
  rcases pk_ix v1 (n := 16) (by decide) with h | h | ⟨c, hc, rfl⟩
  · exact xs_is0 (Or.inl h) (br_t rfl (ys_settle W (fun st2 va2 G2 => ys_is0 (Or.inl h) (br_t rfl ⟨rfl, R st2 va2⟩))))
  · exact xs_is0 (Or.inr h) (br_t rfl (ys_settle W (fun st2 va2 G2 => ys_is0 (Or.inr h) (br_t rfl ⟨rfl, R st2 va2⟩))))
  · refine xs_is1 hc (br_f (by decide) (xs_needsOf hc (W c hc) (ys_settle W (fun st2 va2 G2 => ys_is1 hc (br_f (by decide) (ys_wants hc (W c hc) ⟨?_, R st2 va2⟩))))))
    refine (sh_Nloc (W c hc) (fun d hd _ => ?_)).1
    rw [sh_mk0 (hm d hd)]
    exact U st2 va2 G2 d hd
theorem i_vc_reached {k : Nat} {u : SX} {v : SY} (I : i_Rel k u v) (hk : k + 5 ≤ 2560) (v1 : Int32) : wpX_reached (fun r => wpY_reached (fun r' v' => r' = r ∧ i_Rel (k + 5) u v') v v1) u v1 := by
  refine zz_el (P := fun u v => wpX_reached (fun r => wpY_reached (fun r' v' => r' = r ∧ i_Rel (k + 5) u v') v v1) u v1) ?_ I
  intro ch o f s kx st va m sk os ov ky st' va' os' ov' W hk G hr hm
  unfold wpX_reached wpY_reached
  dsimp only
  have R : ∀ st2 va2 : Nat → Int32, i_Rel (k + 5) (ch, o, f, s, kx, st, va, m, sk, os, ov) (ch, o, f, s, ky, st2, va2, os', ov') := fun _ _ => zz_in W hk G hr hm
  have U : ∀ st2 va2 : Nat → Int32, sh_G o f s ky st2 va2 → ∀ i, i < 16 → st2 i = st i ∧ va2 i = va i := fun _ _ G2 => sh_uni W (sh_Gk W hk G) G2
  rcases pk_ix v1 (n := 16) (by decide) with h | h | ⟨c, hc, rfl⟩
  · exact xs_is0 (Or.inl h) (br_t rfl (ys_is0 (Or.inl h) (br_t rfl ⟨rfl, R st' va'⟩)))
  · exact xs_is0 (Or.inr h) (br_t rfl (ys_is0 (Or.inr h) (br_t rfl ⟨rfl, R st' va'⟩)))
  · refine xs_is1 hc (br_f (by decide) (xs_reach W (ys_is1 hc (br_f (by decide) (ys_settle W (fun st2 va2 G2 => ⟨17, ys_reach_18 W 16 0 0 rfl ⟨?_, R st2 va2⟩⟩))))))
    refine sh_ro_c (fun i hi => ?_) 16 0
    refine (sh_Nloc (W i hi) (fun d hd _ => ?_)).1
    rw [sh_mk0 (hm d hd)]
    exact U st2 va2 G2 d hd
theorem i_vc_count {k : Nat} {u : SX} {v : SY} (I : i_Rel k u v) (hk : k + 5 ≤ 2560) (v1 : Int32) : wpX_count (fun r => wpY_count (fun r' v' => r' = r ∧ i_Rel (k + 5) u v') v v1) u v1 := by
  refine zz_el (P := fun u v => wpX_count (fun r => wpY_count (fun r' v' => r' = r ∧ i_Rel (k + 5) u v') v v1) u v1) ?_ I
  intro ch o f s kx st va m sk os ov ky st' va' os' ov' W hk G hr hm
  unfold wpX_count wpY_count
  dsimp only
  have R : ∀ st2 va2 : Nat → Int32, i_Rel (k + 5) (ch, o, f, s, kx, st, va, m, sk, os, ov) (ch, o, f, s, ky, st2, va2, os', ov') := fun _ _ => zz_in W hk G hr hm
  have U : ∀ st2 va2 : Nat → Int32, sh_G o f s ky st2 va2 → ∀ i, i < 16 → st2 i = st i ∧ va2 i = va i := fun _ _ G2 => sh_uni W (sh_Gk W hk G) G2
  exact ⟨17, xs_cnt 16 0 0 rfl (ys_settle W (fun st2 va2 G2 => ⟨17, ys_cnt 16 0 0 rfl ⟨sh_cn_c (fun i hi => (U st2 va2 G2 i hi).1) 16 (by omega) 0, R st2 va2⟩⟩))⟩
end
section
theorem zz_fin {k : Nat} {o f s kx ky st va st0 va0 o1 f1 s1 kx1 ky1 stx vax m1 sk1 osx ovx sty vay osy ovy : Nat → Int32}
    (W : sh_W o f s) (hk : ∀ i, i < 16 → o i = -1 → ky i = kx i) (G : sh_G o f s kx st va) (G0 : sh_G o f s ky st0 va0)
    (W1 : sh_W o1 f1 s1) (hk1 : ∀ i, i < 16 → o1 i = -1 → ky1 i = kx1 i) (G1 : sh_G o1 f1 s1 kx1 stx vax) (G2 : sh_G o1 f1 s1 ky1 sty vay)
    (hr1 : ∀ i, i < 16 → sh_rg (stx i)) (hm1 : ∀ i, i < 16 → m1 i = 0) (hox : ∀ i, i < 16 → osx i = st i ∧ ovx i = va i) (hoy : ∀ i, i < 16 → osy i = st0 i ∧ ovy i = va0 i) :
    i_Rel k (sh_df stx vax osx ovx 16 0, o1, f1, s1, kx1, stx, vax, m1, sk1, osx, ovx) (sh_df sty vay osy ovy 16 0, o1, f1, s1, ky1, sty, vay, osy, ovy) := by
  have U0 := sh_uni W (sh_Gk W hk G) G0
  have U1 := sh_uni W1 (sh_Gk W1 hk1 G1) G2
  have e : sh_df sty vay osy ovy 16 0 = sh_df stx vax osx ovx 16 0 :=
    sh_df_c U1 (fun i hi => ⟨by rw [(hoy i hi).1, (hox i hi).1, (U0 i hi).1], by rw [(hoy i hi).2, (hox i hi).2, (U0 i hi).2]⟩) 16 (by omega) 0
  rw [e]
  exact zz_in W1 hk1 G1 hr1 hm1
theorem zz_hk {o kx ky : Nat → Int32} {t : Nat} {o1 x1 y1 : Int32} (hk : ∀ i, i < 16 → o i = -1 → ky i = kx i) (h : o1 = -1 → y1 = x1) :
    ∀ i, i < 16 → upd o t o1 i = -1 → upd ky t y1 i = upd kx t x1 i := by
  intro i hi
  by_cases z : i = t
  · rw [z, pk_us, pk_us, pk_us]; exact h
  · rw [pk_un z, pk_un z, pk_un z]; exact hk i hi
theorem zz_hk' {o kx ky : Nat → Int32} {t : Nat} {o1 x1 : Int32} (hk : ∀ i, i < 16 → o i = -1 → ky i = kx i) (h : ¬ o1 = -1) :
    ∀ i, i < 16 → upd o t o1 i = -1 → ky i = upd kx t x1 i := by
  intro i hi
  by_cases z : i = t
  · rw [z, pk_us]; exact fun w => absurd w h
  · rw [pk_un z, pk_un z]; exact hk i hi
theorem i_vc_put {k : Nat} {u : SX} {v : SY} (I : i_Rel k u v) (hk : k + 5 ≤ 2560) (v1 : Int32) (v2 : Int32) : wpX_put (fun r u' => wpY_put (fun r' v' => r' = r ∧ i_Rel (k + 5) u' v') v v1 v2) u v1 v2 := by
  refine zz_el (P := fun u v => wpX_put (fun r u' => wpY_put (fun r' v' => r' = r ∧ i_Rel (k + 5) u' v') v v1 v2) u v1 v2) ?_ I
  intro ch o f s kx st va m sk os ov ky st' va' os' ov' W hk G hr hm
  have R : i_Rel (k + 5) (ch, o, f, s, kx, st, va, m, sk, os, ov) (ch, o, f, s, ky, st', va', os', ov') := zz_in W hk G hr hm
  unfold wpX_put wpY_put
  dsimp only
  rcases pk_ix v1 (n := 16) (by decide) with h | h | ⟨c, hc, rfl⟩
  · exact xs_is0 (Or.inl h) (br_t rfl (ys_is0 (Or.inl h) (br_t rfl ⟨rfl, R⟩)))
  · exact xs_is0 (Or.inr h) (br_t rfl (ys_is0 (Or.inr h) (br_t rfl ⟨rfl, R⟩)))
  · have hcf : sh_cf (-1) 0 0 := Or.inl ⟨rfl, rfl, rfl⟩
    refine xs_is1 hc (br_f (by decide) (xs_write W G hr hm hc hcf (fun stx vax m1 sk1 osx ovx G1 hr1 hm1 hox => ?_)))
    dsimp only
    refine ys_is1 hc (br_f (by decide) (ys_before W (fun st0 va0 osy ovy G0 hoy => ?_)))
    dsimp only
    refine ys_hold hc hcf (by decide) (by decide) ?_
    dsimp only
    refine ⟨vp_in_nI hc (by decide), nm_r (e' := upd ky c v2) (by rw [nI_clamp (by omega)]) ?_⟩
    refine ys_compare (sh_W_upd W hcf) (fun sty vay G2 => ?_)
    dsimp only
    refine ⟨rfl, ?_⟩
    have hk1 : ∀ i, i < 16 → upd o c (-1) i = -1 → upd ky c v2 i = upd kx c v2 i := zz_hk hk (fun _ => rfl)
    have fin := zz_fin (k := k + 5) (sk1 := sk1) W hk G G0 (sh_W_upd W hcf) hk1 G1 G2 hr1 hm1 hox hoy
    exact fin
theorem sh_opc (p : Int32) : p < 0 ∨ 8 < p ∨ p = 8 ∨ p = 4 ∨ p = 6 ∨ (sh_two p ∨ p = 5) := by
  rcases pk_ix p (n := 9) (by decide) with h | h | ⟨j, hj, rfl⟩
  · exact Or.inl h
  · right; left
    have h' : (9 : Int32) ≤ p := h
    rw [Int32.le_iff_toInt_le] at h'
    rw [Int32.lt_iff_toInt_lt]
    have e9 : (9 : Int32).toInt = 9 := by decide
    have e8 : (8 : Int32).toInt = 8 := by decide
    omega
  · right; right
    have hh : j = 0 ∨ j = 1 ∨ j = 2 ∨ j = 3 ∨ j = 4 ∨ j = 5 ∨ j = 6 ∨ j = 7 ∨ j = 8 := by omega
    unfold sh_two
    rcases hh with rfl | rfl | rfl | rfl | rfl | rfl | rfl | rfl | rfl <;> decide
section
variable {df : Int32} {o f s k st va os ov : Nat → Int32}
theorem ys_74r {post : Int32 → SY → Prop} {x1 x2 x3 x4 x5 z0 : Int32} (h : (x1 < 0 ∨ nI 16 ≤ x1) ∨ x2 < 0 ∨ 8 < x2 ∨ x5 = 0 ∨ z0 = 0) (hp : post 0 (df, o, f, s, k, st, va, os, ov)) :
    wY_formula_74 post x1 x2 x3 x4 x5 z0 df o f s k st va os ov := by
  unfold wY_formula_74
  rcases pk_ix x1 (n := 16) (by decide) with y | y | ⟨c, hc, rfl⟩
  · exact ys_is0 (Or.inl y) (br_t rfl hp)
  · exact ys_is0 (Or.inr y) (br_t rfl hp)
  · refine ys_is1 hc (br_f (by decide) ?_)
    by_cases h1 : x2 < 0
    · exact br_t h1 hp
    · refine br_f h1 ?_
      by_cases h2 : 8 < x2
      · exact br_t h2 hp
      · refine br_f h2 ?_
        by_cases h3 : x5 = 0
        · exact br_t h3 hp
        · refine br_f h3 ?_
          rcases h with (h | h) | h | h | h | h
          · exact absurd h (nI_pos (by omega))
          · exact absurd h (nI_ge hc (by decide))
          · exact absurd h h1
          · exact absurd h h2
          · exact absurd h h3
          · exact br_t h hp
theorem ys_19r {post : Int32 → SY → Prop} {x1 x2 x3 x4 z0 : Int32} (h : (x1 < 0 ∨ nI 16 ≤ x1) ∨ x2 < 0 ∨ 8 < x2 ∨ z0 = 0) (hp : post 0 (df, o, f, s, k, st, va, os, ov)) :
    wY_formula_19 post x1 x2 x3 x4 z0 df o f s k st va os ov := by
  have g : ∀ w : Int32, wY_formula_74 post x1 x2 x3 x4 z0 w df o f s k st va os ov := fun w => ys_74r (by
    rcases h with h | h | h | h
    · exact Or.inl h
    · exact Or.inr (Or.inl h)
    · exact Or.inr (Or.inr (Or.inl h))
    · exact Or.inr (Or.inr (Or.inr (Or.inl h)))) hp
  unfold wY_formula_19
  refine br_c (fun _ => br_c (fun _ => g 0) (fun _ => br_c (fun _ => g 0) (fun _ => g 1))) (fun _ => br_c (fun _ => g 1) (fun _ => br_c (fun _ => g 1) (fun _ => ?_)))
  rcases pk_ix x4 (n := 16) (by decide) with y | y | ⟨c, hc, rfl⟩
  · exact ys_is0 (Or.inl y) (br_t rfl (g 0))
  · exact ys_is0 (Or.inr y) (br_t rfl (g 0))
  · exact ys_is1 hc (br_f (by decide) (g 1))
theorem ys_fr {post : Int32 → SY → Prop} {x1 x2 x3 x4 : Int32} (h : (x1 < 0 ∨ nI 16 ≤ x1) ∨ x2 < 0 ∨ 8 < x2) (hp : post 0 (df, o, f, s, k, st, va, os, ov)) :
    wpY_formula post (df, o, f, s, k, st, va, os, ov) x1 x2 x3 x4 := by
  have g : ∀ w : Int32, wY_formula_19 post x1 x2 x3 x4 w df o f s k st va os ov := fun w => ys_19r (by
    rcases h with h | h | h
    · exact Or.inl h
    · exact Or.inr (Or.inl h)
    · exact Or.inr (Or.inr (Or.inl h))) hp
  unfold wpY_formula
  dsimp only
  refine br_c (fun _ => g 1) (fun _ => ?_)
  rcases pk_ix x3 (n := 16) (by decide) with y | y | ⟨c, hc, rfl⟩
  · exact ys_is0 (Or.inl y) (br_t rfl (g 0))
  · exact ys_is0 (Or.inr y) (br_t rfl (g 0))
  · exact ys_is1 hc (br_f (by decide) (g 1))
theorem ys_fd {post : Int32 → SY → Prop} {x1 x2 x3 x4 : Int32} (h8 : ¬ x2 = 8) (h : x3 < 0 ∨ nI 16 ≤ x3) (hp : post 0 (df, o, f, s, k, st, va, os, ov)) :
    wpY_formula post (df, o, f, s, k, st, va, os, ov) x1 x2 x3 x4 := by
  unfold wpY_formula
  dsimp only
  exact br_f h8 (ys_is0 h (br_t rfl (ys_19r (Or.inr (Or.inr (Or.inr rfl))) hp)))
theorem ys_f1 {post : Int32 → SY → Prop} {x1 x2 x4 : Int32} {a : Nat} (ha : a < 16) (h8 : ¬ x2 = 8) (h : wY_formula_19 post x1 x2 (nI a) x4 1 df o f s k st va os ov) :
    wpY_formula post (df, o, f, s, k, st, va, os, ov) x1 x2 (nI a) x4 := by
  unfold wpY_formula
  dsimp only
  exact br_f h8 (ys_is1 ha (br_f (by decide) h))
theorem ys_74a (W : sh_W o f s) {post : Int32 → SY → Prop} {c : Nat} {p a b a1 b1 : Int32} (hc : c < 16) (h0 : ¬ p < 0) (h1 : ¬ 8 < p) (hcf : sh_cf p a1 b1)
    (ha : a1 = if p < 0 ∨ p = 8 then 0 else a) (hb : b1 = if p < 0 ∨ p = 8 ∨ p = 6 then 0 else b)
    (H : ∀ st0 va0 osy ovy sty vay : Nat → Int32, sh_G o f s k st0 va0 → (∀ i, i < 16 → osy i = st0 i ∧ ovy i = va0 i) → sh_G (upd o c p) (upd f c a1) (upd s c b1) k sty vay →
      post 1 (sh_df sty vay osy ovy 16 0, upd o c p, upd f c a1, upd s c b1, k, sty, vay, osy, ovy)) : wY_formula_74 post (nI c) p a b 1 1 df o f s k st va os ov := by
  unfold wY_formula_74
  refine ys_is1 hc (br_f (by decide) (br_f h0 (br_f h1 (br_f (by decide) (br_f (by decide) (ys_before W (fun st0 va0 osy ovy G0 hoy => ?_)))))))
  dsimp only
  refine ys_hold hc hcf ha hb ?_
  dsimp only
  refine ys_compare (sh_W_upd W hcf) (fun sty vay G2 => ?_)
  dsimp only
  exact H st0 va0 osy ovy sty vay G0 hoy G2
end
theorem zz_wf {k : Nat} {ch : Int32} {o f s kx st va m sk os ov ky st' va' os' ov' : Nat → Int32} {c : Nat} {p a b a1 b1 : Int32} (W : sh_W o f s) (hk : ∀ i, i < 16 → o i = -1 → ky i = kx i)
    (G : sh_G o f s kx st va) (hr : ∀ i, i < 16 → sh_rg (st i)) (hm : ∀ i, i < 16 → m i = 0) (hc : c < 16) (h0 : ¬ p < 0) (h1 : ¬ 8 < p) (hcf : sh_cf p a1 b1)
    (ha : a1 = if p < 0 ∨ p = 8 then 0 else a) (hb : b1 = if p < 0 ∨ p = 8 ∨ p = 6 then 0 else b) {Q : Int32 → SX → Prop}
    (hQ : ∀ u' : SX, wY_formula_74 (fun r' v' => r' = 1 ∧ i_Rel (k + 5) u' v') (nI c) p a b 1 1 ch o f s ky st' va' os' ov' → Q 1 u') :
    wX_formula_99 Q (nI c) p a1 b1 ch o f s kx st va m sk os ov := by
  unfold wX_formula_99
  refine xs_write W G hr hm hc hcf (fun stx vax m1 sk1 osx ovx G1 hr1 hm1 hox => ?_)
  dsimp only
  refine hQ _ (ys_74a W hc h0 h1 hcf ha hb (fun st0 va0 osy ovy sty vay G0 hoy G2 => ?_))
  refine ⟨rfl, ?_⟩
  have hp : ¬ p = -1 := fun z => by
    rw [z] at h0
    exact h0 (by decide)
  have hk1 : ∀ i, i < 16 → upd o c p i = -1 → ky i = upd kx c 0 i := zz_hk' hk hp
  have fin := zz_fin (k := k + 5) (sk1 := sk1) W hk G G0 (sh_W_upd W hcf) hk1 G1 G2 hr1 hm1 hox hoy
  exact fin
end
section
theorem i_vc_formula {k : Nat} {u : SX} {v : SY} (I : i_Rel k u v) (hk : k + 5 ≤ 2560) (v1 : Int32) (v2 : Int32) (v3 : Int32) (v4 : Int32) : wpX_formula (fun r u' => wpY_formula (fun r' v' => r' = r ∧ i_Rel (k + 5) u' v') v v1 v2 v3 v4) u v1 v2 v3 v4 := by
  refine zz_el (P := fun u v => wpX_formula (fun r u' => wpY_formula (fun r' v' => r' = r ∧ i_Rel (k + 5) u' v') v v1 v2 v3 v4) u v1 v2 v3 v4) ?_ I
  intro ch o f s kx st va m sk os ov ky st' va' os' ov' W hk G hr hm
  have R : i_Rel (k + 5) (ch, o, f, s, kx, st, va, m, sk, os, ov) (ch, o, f, s, ky, st', va', os', ov') := zz_in W hk G hr hm
  unfold wpX_formula
  dsimp only
  rcases pk_ix v1 (n := 16) (by decide) with h | h | ⟨c, hc, rfl⟩
  · exact xs_is0 (Or.inl h) (br_t rfl (ys_fr (Or.inl (Or.inl h)) ⟨rfl, R⟩))
  · exact xs_is0 (Or.inr h) (br_t rfl (ys_fr (Or.inl (Or.inr h)) ⟨rfl, R⟩))
  refine xs_is1 hc (br_f (by decide) ?_)
  rcases sh_opc v2 with h | h | rfl | rfl | rfl | h
  · exact br_t h (ys_fr (Or.inr (Or.inl h)) ⟨rfl, R⟩)
  · by_cases h' : v2 < 0
    · exact br_t h' (ys_fr (Or.inr (Or.inl h')) ⟨rfl, R⟩)
    · exact br_f h' (br_t h (ys_fr (Or.inr (Or.inr h)) ⟨rfl, R⟩))
  · refine br_f (by decide) (br_f (by decide) (br_t rfl (br_f (by decide) (xs_two0 (Or.inr (Or.inr rfl)) (br_t rfl (br_t rfl (br_f (by decide) (xs_two0 (Or.inr (Or.inr rfl)) (br_t rfl ?_)))))))))
    refine zz_wf (k := k) (st' := st') (va' := va') (os' := os') (ov' := ov') W hk G hr hm hc (by decide) (by decide) (a := v3) (b := v4) (Or.inr (Or.inl ⟨rfl, rfl, rfl⟩)) (by rw [if_pos (Or.inr rfl)]) (by rw [if_pos (Or.inr (Or.inl rfl))]) (fun u' hY => ?_)
    unfold wpY_formula
    dsimp only
    exact br_t rfl (br_f (by decide) (br_f (by decide) (br_t rfl hY)))
  · refine br_f (by decide) (br_f (by decide) (br_f (by decide) ?_))
    rcases pk_ix v3 (n := 16) (by decide) with h | h | ⟨a, ha, rfl⟩
    · exact xs_is0 (Or.inl h) (br_t rfl (ys_fd (by decide) (Or.inl h) ⟨rfl, R⟩))
    · exact xs_is0 (Or.inr h) (br_t rfl (ys_fd (by decide) (Or.inr h) ⟨rfl, R⟩))
    refine xs_is1 ha (br_f (by decide) (br_t rfl ?_))
    by_cases h1 : v4 < -15
    · exact br_t h1 (ys_f1 ha (by decide) (br_t rfl (br_t h1 (ys_74r (Or.inr (Or.inr (Or.inr (Or.inr rfl)))) ⟨rfl, R⟩))))
    · refine br_f h1 ?_
      by_cases h2 : 15 < v4
      · exact br_t h2 (ys_f1 ha (by decide) (br_t rfl (br_f h1 (br_t h2 (ys_74r (Or.inr (Or.inr (Or.inr (Or.inr rfl)))) ⟨rfl, R⟩)))))
      · refine br_f h2 (xs_two0 (Or.inl rfl) (br_t rfl (br_f (by decide) (br_t rfl ?_))))
        refine zz_wf (k := k) (st' := st') (va' := va') (os' := os') (ov' := ov') W hk G hr hm hc (by decide) (by decide) (a := nI a) (b := v4) (Or.inr (Or.inr (Or.inr (Or.inl ⟨rfl, ⟨a, ha, rfl⟩, h1, h2⟩)))) (by rw [if_neg (by decide)]) (by rw [if_neg (by decide)]) (fun u' hY => ?_)
        exact ys_f1 ha (by decide) (br_t rfl (br_f h1 (br_f h2 hY)))
  · refine br_f (by decide) (br_f (by decide) (br_f (by decide) ?_))
    rcases pk_ix v3 (n := 16) (by decide) with h | h | ⟨a, ha, rfl⟩
    · exact xs_is0 (Or.inl h) (br_t rfl (ys_fd (by decide) (Or.inl h) ⟨rfl, R⟩))
    · exact xs_is0 (Or.inr h) (br_t rfl (ys_fd (by decide) (Or.inr h) ⟨rfl, R⟩))
    refine xs_is1 ha (br_f (by decide) (br_f (by decide) (xs_two0 (Or.inr (Or.inl rfl)) (br_t rfl (br_f (by decide) (br_f (by decide) (xs_two0 (Or.inr (Or.inl rfl)) (br_t rfl ?_))))))))
    refine zz_wf (k := k) (st' := st') (va' := va') (os' := os') (ov' := ov') W hk G hr hm hc (by decide) (by decide) (a := nI a) (b := v4) (Or.inr (Or.inr (Or.inl ⟨rfl, ⟨a, ha, rfl⟩, rfl⟩))) (by rw [if_neg (by decide)]) (by rw [if_pos (by decide)]) (fun u' hY => ?_)
    exact ys_f1 ha (by decide) (br_f (by decide) (br_t rfl hY))
  · have hn : ¬ v2 < 0 ∧ ¬ 8 < v2 ∧ ¬ v2 = 8 ∧ ¬ v2 = 4 ∧ ¬ v2 = 6 := by
      rcases h with (h | h | h | h | h) | h <;> rw [h] <;> decide
    obtain ⟨n0, n9, n8, n4, n6⟩ := hn
    refine br_f n0 (br_f n9 (br_f n8 ?_))
    rcases pk_ix v3 (n := 16) (by decide) with y | y | ⟨a, ha, rfl⟩
    · exact xs_is0 (Or.inl y) (br_t rfl (ys_fd n8 (Or.inl y) ⟨rfl, R⟩))
    · exact xs_is0 (Or.inr y) (br_t rfl (ys_fd n8 (Or.inr y) ⟨rfl, R⟩))
    refine xs_is1 ha (br_f (by decide) (br_f n4 (xs_two1 h (br_f (by decide) ?_))))
    rcases pk_ix v4 (n := 16) (by decide) with y | y | ⟨b, hb, rfl⟩
    · exact xs_is0 (Or.inl y) (br_t rfl (ys_f1 ha n8 (br_f n4 (br_f n6 (br_f n8 (ys_is0 (Or.inl y) (br_t rfl (ys_74r (Or.inr (Or.inr (Or.inr (Or.inr rfl)))) ⟨rfl, R⟩))))))))
    · exact xs_is0 (Or.inr y) (br_t rfl (ys_f1 ha n8 (br_f n4 (br_f n6 (br_f n8 (ys_is0 (Or.inr y) (br_t rfl (ys_74r (Or.inr (Or.inr (Or.inr (Or.inr rfl)))) ⟨rfl, R⟩))))))))
    refine xs_is1 hb (br_f (by decide) (br_f n8 (br_f n4 (xs_two1 h (br_f (by decide) ?_)))))
    have hcf : sh_cf v2 (nI a) (nI b) := by
      rcases h with h | h
      · exact Or.inr (Or.inr (Or.inr (Or.inr (Or.inr ⟨h, ⟨a, ha, rfl⟩, b, hb, rfl⟩))))
      · exact Or.inr (Or.inr (Or.inr (Or.inr (Or.inl ⟨h, ⟨a, ha, rfl⟩, b, hb, rfl⟩))))
    refine zz_wf (k := k) (st' := st') (va' := va') (os' := os') (ov' := ov') W hk G hr hm hc n0 n9 (a := nI a) (b := nI b) hcf (by rw [if_neg (fun z => z.elim n0 n8)]) (by rw [if_neg (fun z => z.elim n0 (fun w => w.elim n8 n6))]) (fun u' hY => ?_)
    exact ys_f1 ha n8 (br_f n4 (br_f n6 (br_f n8 (ys_is1 hb (br_f (by decide) hY)))))
end
section
section
variable {df : Int32} {o f s k st va os ov : Nat → Int32}
theorem ys_144 {post : Int32 → SY → Prop} {t : Nat} {p a b a1 b1 : Int32} (W : sh_W o f s) (ht : t < 16) (hcf : sh_cf p a1 b1)
    (ha : a1 = if p < 0 ∨ p = 8 then 0 else a) (hb : b1 = if p < 0 ∨ p = 8 ∨ p = 6 then 0 else b)
    (H : ∀ sty vay : Nat → Int32, sh_G (upd o t p) (upd f t a1) (upd s t b1) k sty vay →
      post 1 (sh_df sty vay os ov 16 0, upd o t p, upd f t a1, upd s t b1, k, sty, vay, os, ov)) : wY_copy_144 post a b p (nI t) df o f s k st va os ov := by
  unfold wY_copy_144
  refine ys_hold ht hcf ha hb ?_
  dsimp only
  refine ys_compare (sh_W_upd W hcf) (fun sty vay G2 => ?_)
  dsimp only
  exact H sty vay G2
theorem ys_116 {post : Int32 → SY → Prop} {c t : Nat} {p a b a1 b1 : Int32} (W : sh_W o f s) (hc : c < 16) (ht : t < 16) (hcf : sh_cf p a1 b1)
    (ha : a1 = if p < 0 ∨ p = 8 then 0 else a) (hb : b1 = if p < 0 ∨ p = 8 ∨ p = 6 then 0 else b)
    (H : ∀ sty vay : Nat → Int32, sh_G (upd o t p) (upd f t a1) (upd s t b1) (upd k t (k c)) sty vay →
      post 1 (sh_df sty vay os ov 16 0, upd o t p, upd f t a1, upd s t b1, upd k t (k c), sty, vay, os, ov)) : wY_copy_116 post (nI c) (nI t) p a b df o f s k st va os ov := by
  unfold wY_copy_116 wY_copy_117
  exact ⟨vp_in_nI hc (by decide), vp_in_nI ht (by decide), nm_r (e' := upd k t (k c)) (by rw [nI_clamp (by omega), nI_clamp (by omega)]) (br_t rfl (ys_144 W ht hcf ha hb H))⟩
theorem ys_112 {post : Int32 → SY → Prop} {c t : Nat} {p a b : Int32} (W : sh_W o f s) (hc : c < 16) (ht : t < 16)
    (H : ∀ sty vay : Nat → Int32, sh_G (upd o t 8) (upd f t 0) (upd s t 0) (upd k t (k c)) sty vay →
      post 1 (sh_df sty vay os ov 16 0, upd o t 8, upd f t 0, upd s t 0, upd k t (k c), sty, vay, os, ov)) : wY_copy_112 post (nI c) (nI t) p a b df o f s k st va os ov := by
  unfold wY_copy_112 wY_copy_117
  exact ⟨vp_in_nI hc (by decide), vp_in_nI ht (by decide), nm_r (e' := upd k t (k c)) (by rw [nI_clamp (by omega), nI_clamp (by omega)]) (br_f (by decide) (ys_144 W ht (Or.inr (Or.inl ⟨rfl, rfl, rfl⟩)) (by rw [if_pos (Or.inr rfl)]) (by rw [if_pos (Or.inr (Or.inl rfl))]) H))⟩
theorem ys_71k {post : Int32 → SY → Prop} {x1 x2 p a b : Int32}
    (hp : p < 0 ∨ 8 ≤ p ∨ (∃ x : Nat, x < 16 ∧ a = nI x) ∧ (p = 4 ∨ p = 6 ∨ ∃ y : Nat, y < 16 ∧ b = nI y)) (h : wY_copy_116 post x1 x2 p a b df o f s k st va os ov) :
    wY_copy_71 post x1 x2 p a b df o f s k st va os ov := by
  unfold wY_copy_71
  by_cases h1 : p < 0
  · exact br_t h1 h
  refine br_f h1 ?_
  by_cases h2 : 8 ≤ p
  · exact br_t h2 h
  refine br_f h2 ?_
  rcases hp with y | y | ⟨⟨x, hx, rfl⟩, y⟩
  · exact absurd y h1
  · exact absurd y h2
  refine ys_is1 hx (br_f (by decide) ?_)
  by_cases h4 : p = 4
  · exact br_t h4 h
  refine br_f h4 ?_
  by_cases h6 : p = 6
  · exact br_t h6 h
  refine br_f h6 ?_
  rcases y with y | y | ⟨y, hy, rfl⟩
  · exact absurd y h4
  · exact absurd y h6
  exact ys_is1 hy (br_f (by decide) h)
theorem ys_71l {post : Int32 → SY → Prop} {x1 x2 p a b : Int32} (h1 : ¬ p < 0) (h2 : ¬ 8 ≤ p)
    (hp : (a < 0 ∨ nI 16 ≤ a) ∨ (¬ p = 4 ∧ ¬ p = 6 ∧ (b < 0 ∨ nI 16 ≤ b))) (h : wY_copy_112 post x1 x2 p a b df o f s k st va os ov) :
    wY_copy_71 post x1 x2 p a b df o f s k st va os ov := by
  unfold wY_copy_71
  refine br_f h1 (br_f h2 ?_)
  rcases pk_ix a (n := 16) (by decide) with y | y | ⟨x, hx, rfl⟩
  · exact ys_is0 (Or.inl y) (br_t rfl h)
  · exact ys_is0 (Or.inr y) (br_t rfl h)
  refine ys_is1 hx (br_f (by decide) ?_)
  rcases hp with (y | y) | ⟨h4, h6, hb⟩
  · exact absurd y (nI_pos (by omega))
  · exact absurd y (nI_ge hx (by decide))
  exact br_f h4 (br_f h6 (ys_is0 hb (br_t rfl h)))
theorem ys_copy {post : Int32 → SY → Prop} {c t : Nat} (W : sh_W o f s) (hc : c < 16) (ht : t < 16)
    (H : ∀ st va os ov : Nat → Int32, sh_G o f s k st va → (∀ i, i < 16 → os i = st i ∧ ov i = va i) →
      wY_copy_71 post (nI c) (nI t) (o c) (f c + nI t - nI c) (if o c = 4 ∨ o c = 6 then s c else s c + nI t - nI c) df o f s k st va os ov) :
    wpY_copy post (df, o, f, s, k, st, va, os, ov) (nI c) (nI t) := by
  have hi : vp_in (nI c) 16 := vp_in_nI hc (by decide)
  have hcl : (nI c).toNatClampNeg = c := nI_clamp (by omega)
  unfold wpY_copy
  dsimp only
  refine ys_is1 hc (br_f (by decide) (ys_is1 ht (br_f (by decide) (ys_before W (fun st0 va0 osy ovy G0 hoy => ?_)))))
  dsimp only
  rw [hcl]
  have hH := H st0 va0 osy ovy G0 hoy
  refine ⟨hi, nm_e ⟨hi, nm_e ?_⟩⟩
  by_cases h4 : o c = 4
  · rw [if_pos (Or.inl h4)] at hH
    refine br_t h4 ?_
    unfold wY_copy_52
    rw [hcl]
    exact ⟨hi, hH⟩
  · refine br_f h4 ?_
    by_cases h6 : o c = 6
    · rw [if_pos (Or.inr h6)] at hH
      refine br_t h6 ?_
      unfold wY_copy_52
      rw [hcl]
      exact ⟨hi, hH⟩
    · rw [if_neg (fun z => z.elim h4 h6)] at hH
      exact br_f h6 ⟨hi, hH⟩
theorem ys_copy0 {post : Int32 → SY → Prop} {p0 p1 : Int32} (h : (p0 < 0 ∨ nI 16 ≤ p0) ∨ (p1 < 0 ∨ nI 16 ≤ p1)) (hp : post 0 (df, o, f, s, k, st, va, os, ov)) :
    wpY_copy post (df, o, f, s, k, st, va, os, ov) p0 p1 := by
  unfold wpY_copy
  dsimp only
  rcases pk_ix p0 (n := 16) (by decide) with y | y | ⟨c, hc, rfl⟩
  · exact ys_is0 (Or.inl y) (br_t rfl hp)
  · exact ys_is0 (Or.inr y) (br_t rfl hp)
  refine ys_is1 hc (br_f (by decide) ?_)
  rcases h with (y | y) | h
  · exact absurd y (nI_pos (by omega))
  · exact absurd y (nI_ge hc (by decide))
  exact ys_is0 h (br_t rfl hp)
end
theorem zz_cpw {k : Nat} {ch : Int32} {o f s kx st va m sk os ov ky st' va' os' ov' : Nat → Int32} {c t : Nat} {p a1 b1 k1 : Int32} (W : sh_W o f s) (hk : ∀ i, i < 16 → o i = -1 → ky i = kx i)
    (G : sh_G o f s kx st va) (hr : ∀ i, i < 16 → sh_rg (st i)) (hm : ∀ i, i < 16 → m i = 0) (hc : c < 16) (ht : t < 16) (hcf : sh_cf p a1 b1) (hkk : p = -1 → ky c = k1)
    (h71 : ∀ (post : Int32 → SY → Prop) (st va os ov : Nat → Int32), (∀ sty vay : Nat → Int32, sh_G (upd o t p) (upd f t a1) (upd s t b1) (upd ky t (ky c)) sty vay →
        post 1 (sh_df sty vay os ov 16 0, upd o t p, upd f t a1, upd s t b1, upd ky t (ky c), sty, vay, os, ov)) →
      wY_copy_71 post (nI c) (nI t) (o c) (f c + nI t - nI c) (if o c = 4 ∨ o c = 6 then s c else s c + nI t - nI c) ch o f s ky st va os ov) {Q : SX → Prop}
    (hQ : ∀ u' : SX, wpY_copy (fun r' v' => r' = 1 ∧ i_Rel (k + 5) u' v') (ch, o, f, s, ky, st', va', os', ov') (nI c) (nI t) → Q u') :
    wpX_write Q (ch, o, f, s, kx, st, va, m, sk, os, ov) (nI t) p a1 b1 k1 := by
  refine xs_write W G hr hm ht hcf (fun stx vax m1 sk1 osx ovx G1 hr1 hm1 hox => ?_)
  refine hQ _ (ys_copy W hc ht (fun st0 va0 osy ovy G0 hoy => h71 _ _ _ _ _ (fun sty vay G2 => ?_)))
  refine ⟨rfl, ?_⟩
  have hk1 : ∀ i, i < 16 → upd o t p i = -1 → upd ky t (ky c) i = upd kx t k1 i := zz_hk hk hkk
  have fin := zz_fin (k := k + 5) (sk1 := sk1) W hk G G0 (sh_W_upd W hcf) hk1 G1 G2 hr1 hm1 hox hoy
  exact fin
theorem zz_sub (x y z : Int32) : x + (y - z) = x + y - z := by
  rw [Int32.sub_eq_add_neg, Int32.sub_eq_add_neg, Int32.add_assoc]
theorem i_vc_copy {k : Nat} {u : SX} {v : SY} (I : i_Rel k u v) (hk : k + 5 ≤ 2560) (v1 : Int32) (v2 : Int32) : wpX_copy (fun r u' => wpY_copy (fun r' v' => r' = r ∧ i_Rel (k + 5) u' v') v v1 v2) u v1 v2 := by
  refine zz_el (P := fun u v => wpX_copy (fun r u' => wpY_copy (fun r' v' => r' = r ∧ i_Rel (k + 5) u' v') v v1 v2) u v1 v2) ?_ I
  intro ch o f s kx st va m sk os ov ky st' va' os' ov' W hk G hr hm
  have R : i_Rel (k + 5) (ch, o, f, s, kx, st, va, m, sk, os, ov) (ch, o, f, s, ky, st', va', os', ov') := zz_in W hk G hr hm
  unfold wpX_copy
  dsimp only
  rcases pk_ix v1 (n := 16) (by decide) with h | h | ⟨c, hc, rfl⟩
  · exact xs_is0 (Or.inl h) (br_t rfl (ys_copy0 (Or.inl (Or.inl h)) ⟨rfl, R⟩))
  · exact xs_is0 (Or.inr h) (br_t rfl (ys_copy0 (Or.inl (Or.inr h)) ⟨rfl, R⟩))
  refine xs_is1 hc (br_f (by decide) ?_)
  rcases pk_ix v2 (n := 16) (by decide) with h | h | ⟨t, ht, rfl⟩
  · exact xs_is0 (Or.inl h) (br_t rfl (ys_copy0 (Or.inr (Or.inl h)) ⟨rfl, R⟩))
  · exact xs_is0 (Or.inr h) (br_t rfl (ys_copy0 (Or.inr (Or.inr h)) ⟨rfl, R⟩))
  refine xs_is1 ht (br_f (by decide) ?_)
  have hi : vp_in (nI c) 16 := vp_in_nI hc (by decide)
  have hcl : (nI c).toNatClampNeg = c := nI_clamp (by omega)
  have wr : ∀ {p a1 b1 k1 : Int32} (hcf : sh_cf p a1 b1) (hkk : p = -1 → ky c = k1)
    (h71 : ∀ (post : Int32 → SY → Prop) (st va os ov : Nat → Int32), (∀ sty vay : Nat → Int32, sh_G (upd o t p) (upd f t a1) (upd s t b1) (upd ky t (ky c)) sty vay →
        post 1 (sh_df sty vay os ov 16 0, upd o t p, upd f t a1, upd s t b1, upd ky t (ky c), sty, vay, os, ov)) →
      wY_copy_71 post (nI c) (nI t) (o c) (f c + nI t - nI c) (if o c = 4 ∨ o c = 6 then s c else s c + nI t - nI c) ch o f s ky st va os ov),
      wpX_write (fun u' => wpY_copy (fun r' v' => r' = 1 ∧ i_Rel (k + 5) u' v') (ch, o, f, s, ky, st', va', os', ov') (nI c) (nI t)) (ch, o, f, s, kx, st, va, m, sk, os, ov) (nI t) p a1 b1 k1 :=
    fun hcf hkk h71 => zz_cpw W hk G hr hm hc ht hcf hkk h71 (fun u' hu => hu)
  have lost : (o c = 4 ∨ o c = 6 ∨ sh_two (o c) ∨ o c = 5) → ((f c + nI t - nI c < 0 ∨ nI 16 ≤ f c + nI t - nI c) ∨ (¬ o c = 4 ∧ ¬ o c = 6 ∧ (s c + nI t - nI c < 0 ∨ nI 16 ≤ s c + nI t - nI c))) →
      wX_copy_115 (fun r u' => wpY_copy (fun r' v' => r' = r ∧ i_Rel (k + 5) u' v') (ch, o, f, s, ky, st', va', os', ov') (nI c) (nI t)) (nI t) ch o f s kx st va m sk os ov := by
    intro ho hl
    refine wr (Or.inr (Or.inl ⟨rfl, rfl, rfl⟩)) (fun z => absurd z (by decide)) (fun post st va os ov H => ?_)
    have hn : ¬ o c < 0 ∧ ¬ 8 ≤ o c := by
      rcases ho with z | z | (z | z | z | z | z) | z <;> rw [z] <;> decide
    refine ys_71l hn.1 hn.2 ?_ (ys_112 W hc ht H)
    rcases hl with hl | ⟨h4, h6, hl⟩
    · exact Or.inl hl
    · refine Or.inr ⟨h4, h6, ?_⟩
      rw [if_neg (fun z => z.elim h4 h6)]
      exact hl
  have keep : ∀ {a1 b1 k1 : Int32}, (o c = 4 ∨ o c = 6 ∨ sh_two (o c) ∨ o c = 5) → sh_cf (o c) a1 b1 → a1 = f c + nI t - nI c → b1 = (if o c = 4 ∨ o c = 6 then s c else s c + nI t - nI c) →
      ((∃ x : Nat, x < 16 ∧ a1 = nI x) ∧ (o c = 4 ∨ o c = 6 ∨ ∃ y : Nat, y < 16 ∧ b1 = nI y)) → (o c = 6 → b1 = 0) →
      wX_copy_128 (fun r u' => wpY_copy (fun r' v' => r' = r ∧ i_Rel (k + 5) u' v') (ch, o, f, s, ky, st', va', os', ov') (nI c) (nI t)) (nI t) (o c) a1 b1 ch o f s kx st va m sk os ov := by
    intro a1 b1 k1 ho hcf ea eb hx h6
    have hn : ¬ o c < 0 ∧ ¬ o c = 8 ∧ ¬ o c = -1 := by
      rcases ho with z | z | (z | z | z | z | z) | z <;> rw [z] <;> decide
    refine wr hcf (fun z => absurd z hn.2.2) (fun post st va os ov H => ?_)
    rw [← ea, ← eb]
    refine ys_71k (Or.inr (Or.inr hx)) (ys_116 W hc ht hcf ?_ ?_ H)
    · rw [if_neg (fun z => z.elim hn.1 hn.2.1)]
    · by_cases z : o c = 6
      · rw [if_pos (Or.inr (Or.inr z))]; exact h6 z
      · rw [if_neg (fun w => w.elim hn.1 (fun w => w.elim hn.2.1 z))]
  rw [hcl]
  refine ⟨hi, nm_e (nm_e ?_)⟩
  rcases W c hc with ⟨eo, ef, es⟩ | ⟨eo, ef, es⟩ | ⟨eo, ⟨x, hx, ef⟩, es⟩ | ⟨eo, ⟨x, hx, ef⟩, e1, e2⟩ | ⟨eo, ⟨x, hx, ef⟩, y, hy, es⟩ | ⟨h2, ⟨x, hx, ef⟩, y, hy, es⟩
  · refine br_t (by rw [eo]; decide) ?_
    unfold wX_copy_38
    rw [hcl, eo]
    refine ⟨hi, wr (Or.inl ⟨rfl, rfl, rfl⟩) (fun _ => hk c hc eo) (fun post st va os ov H => ?_)⟩
    rw [eo]
    exact ys_71k (Or.inl (by decide)) (ys_116 W hc ht (Or.inl ⟨rfl, rfl, rfl⟩) (by rw [if_pos (Or.inl (by decide))]) (by rw [if_pos (Or.inl (by decide))]) H)
  · refine br_f (by rw [eo]; decide) (br_t eo ?_)
    unfold wX_copy_38
    rw [hcl, eo]
    refine ⟨hi, wr (Or.inr (Or.inl ⟨rfl, rfl, rfl⟩)) (fun z => absurd z (by decide)) (fun post st va os ov H => ?_)⟩
    rw [eo]
    exact ys_71k (Or.inr (Or.inl (by decide))) (ys_116 W hc ht (Or.inr (Or.inl ⟨rfl, rfl, rfl⟩)) (by rw [if_pos (Or.inr rfl)]) (by rw [if_pos (Or.inr (Or.inl rfl))]) H)
  · refine br_f (by rw [eo]; decide) (br_f (by rw [eo]; decide) ⟨hi, nm_r (zz_sub _ _ _) (xs_two0 (Or.inr (Or.inl eo)) (br_t rfl ⟨hi, ?_⟩))⟩)
    unfold wX_copy_90
    rcases pk_ix (f c + nI t - nI c) (n := 16) (by decide) with z | z | ⟨a, ha, ea⟩
    · exact xs_is0 (Or.inl z) (br_t rfl (lost (Or.inr (Or.inl eo)) (Or.inl (Or.inl z))))
    · exact xs_is0 (Or.inr z) (br_t rfl (lost (Or.inr (Or.inl eo)) (Or.inl (Or.inr z))))
    · have hcf : sh_cf (o c) (nI a) (s c) := by
        rw [eo, es]; exact Or.inr (Or.inr (Or.inl ⟨rfl, ⟨a, ha, rfl⟩, rfl⟩))
      rw [ea]
      exact xs_is1 ha (br_f (by decide) (xs_two0 (Or.inr (Or.inl eo)) (br_t rfl (keep (k1 := 0) (Or.inr (Or.inl eo)) hcf ea.symm (by rw [if_pos (Or.inr eo)]) ⟨⟨a, ha, rfl⟩, Or.inr (Or.inl eo)⟩ (fun _ => es)))))
  · refine br_f (by rw [eo]; decide) (br_f (by rw [eo]; decide) ⟨hi, nm_r (zz_sub _ _ _) (xs_two0 (Or.inl eo) (br_t rfl ⟨hi, ?_⟩))⟩)
    unfold wX_copy_90
    rcases pk_ix (f c + nI t - nI c) (n := 16) (by decide) with z | z | ⟨a, ha, ea⟩
    · exact xs_is0 (Or.inl z) (br_t rfl (lost (Or.inl eo) (Or.inl (Or.inl z))))
    · exact xs_is0 (Or.inr z) (br_t rfl (lost (Or.inl eo) (Or.inl (Or.inr z))))
    · have hcf : sh_cf (o c) (nI a) (s c) := by
        rw [eo]; exact Or.inr (Or.inr (Or.inr (Or.inl ⟨rfl, ⟨a, ha, rfl⟩, e1, e2⟩)))
      rw [ea]
      exact xs_is1 ha (br_f (by decide) (xs_two0 (Or.inl eo) (br_t rfl (keep (k1 := 0) (Or.inl eo) hcf ea.symm (by rw [if_pos (Or.inl eo)]) ⟨⟨a, ha, rfl⟩, Or.inl eo⟩ (fun z => absurd (eo.symm.trans z) (by decide))))))
  all_goals
    have hT : sh_two (o c) ∨ o c = 5 := by first | exact Or.inr eo | exact Or.inl h2
    have hn : ¬ o c < 0 ∧ ¬ o c = 8 ∧ ¬ o c = 4 ∧ ¬ o c = 6 := by
      rcases hT with (z | z | z | z | z) | z <;> rw [z] <;> decide
    obtain ⟨n0, n8, n4, n6⟩ := hn
    refine br_f n0 (br_f n8 ⟨hi, nm_r (zz_sub _ _ _) (xs_two1 hT (br_f (by decide) ⟨hi, ?_⟩))⟩)
    unfold wX_copy_90
    rw [zz_sub]
    rcases pk_ix (f c + nI t - nI c) (n := 16) (by decide) with z | z | ⟨a, ha, ea⟩
    · exact xs_is0 (Or.inl z) (br_t rfl (lost (Or.inr (Or.inr hT)) (Or.inl (Or.inl z))))
    · exact xs_is0 (Or.inr z) (br_t rfl (lost (Or.inr (Or.inr hT)) (Or.inl (Or.inr z))))
    · rw [ea]
      refine xs_is1 ha (br_f (by decide) (xs_two1 hT (br_f (by decide) ?_)))
      rcases pk_ix (s c + nI t - nI c) (n := 16) (by decide) with z | z | ⟨b, hb, eb⟩
      · exact xs_is0 (Or.inl z) (br_t rfl (lost (Or.inr (Or.inr hT)) (Or.inr ⟨n4, n6, Or.inl z⟩)))
      · exact xs_is0 (Or.inr z) (br_t rfl (lost (Or.inr (Or.inr hT)) (Or.inr ⟨n4, n6, Or.inr z⟩)))
      · have hcf : sh_cf (o c) (nI a) (nI b) := by
          rcases hT with z | z
          · exact Or.inr (Or.inr (Or.inr (Or.inr (Or.inr ⟨z, ⟨a, ha, rfl⟩, b, hb, rfl⟩))))
          · exact Or.inr (Or.inr (Or.inr (Or.inr (Or.inl ⟨z, ⟨a, ha, rfl⟩, b, hb, rfl⟩))))
        rw [eb]
        exact xs_is1 hb (br_f (by decide) (keep (k1 := 0) (Or.inr (Or.inr hT)) hcf ea.symm (by rw [if_neg (fun w => w.elim n4 n6), eb]) ⟨⟨a, ha, rfl⟩, Or.inr (Or.inr ⟨b, hb, rfl⟩)⟩ (fun w => absurd w n6)))
end
