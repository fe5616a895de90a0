section
theorem pk_us {f : Nat → Int32} {k : Nat} {x : Int32} : upd f k x k = x := if_pos rfl
theorem pk_un {f : Nat → Int32} {k j : Nat} {x : Int32} (h : j ≠ k) : upd f k x j = f j := if_neg h
theorem pk_uLs {f : Nat → Int64} {k : Nat} {x : Int64} : vp_updL f k x k = x := if_pos rfl
theorem pk_uLn {f : Nat → Int64} {k j : Nat} {x : Int64} (h : j ≠ k) : vp_updL f k x j = f j := if_neg h
theorem pk_sub {a b : Nat} (h : b ≤ a) : nI a - nI b = nI (a - b) := by
  obtain ⟨c, rfl⟩ : ∃ c, a = c + b := ⟨a - b, by omega⟩
  rw [← nI_add, Int32.add_sub_cancel, Nat.add_sub_cancel]
theorem pk_m1 (n : Nat) : nI (n + 1) + (-1) = nI n := by
  rw [← nI_1, Int32.add_assoc, show (1 : Int32) + (-1) = 0 from rfl, Int32.add_zero]
theorem pk_mul (a b : Nat) : nI a * nI b = nI (a * b) := (Int32.ofNat_mul a b).symm
theorem pk_div {a d : Nat} (ha : a < 2 ^ 31) (h0 : 0 < d) (hd : d < 2 ^ 31) : nI a / nI d = nI (a / d) := by
  apply Int32.toInt_inj.mp
  rw [lg_idiv_nonneg (by rw [nI_toInt ha]; omega) (by rw [nI_toInt hd]; omega), nI_toInt ha, nI_toInt hd, nI_toInt (Nat.lt_of_le_of_lt (Nat.div_le_self a d) ha)]
  first | rfl | exact (Int.natCast_ediv _ _).symm
theorem pk_rem {a d : Nat} (ha : a < 2 ^ 31) (h0 : 0 < d) (hd : d < 2 ^ 31) : nI a - nI a / nI d * nI d = nI (a % d) := by
  rw [pk_div ha h0 hd, pk_mul, pk_sub (Nat.div_mul_le_self a d)]
  exact congrArg nI (by have := Nat.div_add_mod' a d; omega)
theorem pk_sub_toInt {a b : Nat} (ha : a < 2 ^ 30) (hb : b < 2 ^ 30) : (nI a - nI b).toInt = (a : Int) - b := by
  rw [Int32.toInt_sub, nI_toInt (by omega), nI_toInt (by omega)]
  exact Int.bmod_eq_of_le (by omega) (by omega)
theorem pk_sneg {a b : Nat} (hb : b < 2 ^ 30) (h : a < b) : nI a - nI b < 0 := by
  rw [Int32.lt_iff_toInt_lt, pk_sub_toInt (by omega) hb, show (0 : Int32).toInt = 0 from by decide]
  omega
theorem pk_ix (x : Int32) {n : Nat} (hn : n < 2 ^ 31) : x < 0 ∨ nI n ≤ x ∨ ∃ j : Nat, j < n ∧ x = nI j := by
  by_cases h : x < 0
  · exact Or.inl h
  · obtain ⟨j, hj, rfl⟩ := nI_of h
    by_cases h2 : j < n
    · exact Or.inr (Or.inr ⟨j, h2, rfl⟩)
    · exact Or.inr (Or.inl (nI_le (by omega) hj))
theorem pk_le {x y : Int32} {A B : Prop} (a b : Nat) (f : a ≤ b → A) (g : b < a → B) (hx : x = nI a := by rfl) (hy : y = nI b := by rfl) (ha : a < 2 ^ 31 := by omega) (hb : b < 2 ^ 31 := by omega) : (x ≤ y → A) ∧ (¬ x ≤ y → B) := by
  subst hx hy
  rw [nI_leI ha hb]
  exact ⟨f, fun z => g (by omega)⟩
theorem pk_lt {x y : Int32} {A B : Prop} (a b : Nat) (f : a < b → A) (g : b ≤ a → B) (hx : x = nI a := by rfl) (hy : y = nI b := by rfl) (ha : a < 2 ^ 31 := by omega) (hb : b < 2 ^ 31 := by omega) : (x < y → A) ∧ (¬ x < y → B) := by
  subst hx hy
  rw [nI_ltI ha hb]
  exact ⟨f, fun z => g (by omega)⟩
theorem pk_eq {x y : Int32} {A B : Prop} (a b : Nat) (f : a = b → A) (g : a ≠ b → B) (hx : x = nI a := by rfl) (hy : y = nI b := by rfl) (ha : a < 2 ^ 31 := by omega) (hb : b < 2 ^ 31 := by omega) : (x = y → A) ∧ (¬ x = y → B) := by
  subst hx hy
  rw [nI_eq ha hb]
  exact ⟨f, g⟩
theorem pk_in {x : Int32} (n N : Nat) (h : n < N) (hx : x = nI n := by rfl) (hN : N < 2 ^ 31 := by omega) : vp_in x N := by
  subst hx
  exact vp_in_nI h hN
theorem pk_cl {x : Int32} (n : Nat) (hx : x = nI n := by rfl) (h : n < 2 ^ 31 := by omega) : x.toNatClampNeg = n := by
  subst hx
  exact nI_clamp h
theorem pk_tn {n : Nat} (h : n < 2 ^ 32) : (nI n).toBitVec.toNat = n := Nat.mod_eq_of_lt h
theorem pk_and (x : Int32) {m : Int32} (k : Nat) (hm : m.toBitVec.toNat = 2 ^ k - 1) : x &&& m = nI (x.toBitVec.toNat % 2 ^ k) := by
  apply Int32.toBitVec_inj.mp
  apply BitVec.eq_of_toNat_eq
  rw [Int32.toBitVec_and, BitVec.toNat_and, hm, Nat.and_two_pow_sub_one_eq_mod]
  show _ = (BitVec.ofNat 32 _).toNat
  rw [BitVec.toNat_ofNat]
  exact (Nat.mod_eq_of_lt (Nat.lt_of_le_of_lt (Nat.mod_le _ _) x.toBitVec.isLt)).symm
theorem pk_andN {n : Nat} (h : n < 2 ^ 32) {m : Int32} (k : Nat) (hm : m.toBitVec.toNat = 2 ^ k - 1) : nI n &&& m = nI (n % 2 ^ k) := by
  rw [pk_and _ k hm, pk_tn h]
theorem pk_andE (x : Int32) {m : Int32} (k : Nat) (hm : m.toBitVec.toNat = 2 ^ k - 1) : ∃ j : Nat, j < 2 ^ k ∧ x &&& m = nI j := ⟨_, Nat.mod_lt _ (Nat.two_pow_pos k), pk_and x k hm⟩
theorem pk_andIn (x : Int32) {m : Int32} (k : Nat) (hm : m.toBitVec.toNat = 2 ^ k - 1) (hk : k ≤ 30) : vp_in (x &&& m) (2 ^ k) := by
  obtain ⟨j, hj, e⟩ := pk_andE x k hm
  rw [e]
  exact vp_in_nI hj (Nat.lt_of_le_of_lt (Nat.pow_le_pow_right (by decide) hk) (by decide))
theorem pk_shl (a s : Int32) (k : Nat) (hs : (s.toBitVec.smod 32).toNat = k) : (a <<< s).toBitVec.toNat = a.toBitVec.toNat * 2 ^ k % 2 ^ 32 := by
  show (a.toBitVec <<< (s.toBitVec.smod 32).toNat).toNat = _
  rw [hs, BitVec.toNat_shiftLeft, Nat.shiftLeft_eq]
theorem pk_shlN {n : Nat} (s : Int32) (k : Nat) (hs : (s.toBitVec.smod 32).toNat = k) (h : n * 2 ^ k < 2 ^ 32) : nI n <<< s = nI (n * 2 ^ k) := by
  apply Int32.toBitVec_inj.mp
  apply BitVec.eq_of_toNat_eq
  have hn : n < 2 ^ 32 := Nat.lt_of_le_of_lt (Nat.le_mul_of_pos_right n (Nat.two_pow_pos k)) h
  rw [pk_shl _ _ k hs, pk_tn hn, pk_tn h, Nat.mod_eq_of_lt h]
theorem pk_shr (a s : Int32) (k : Nat) (hs : (s.toBitVec.smod 32).toNat = k) : (a >>> s).toInt = a.toInt >>> k := by
  show (a.toBitVec.sshiftRight (s.toBitVec.smod 32).toNat).toInt = _
  rw [hs, BitVec.toInt_sshiftRight]
  rfl
theorem pk_shrN {n : Nat} (h : n < 2 ^ 31) (s : Int32) (k : Nat) (hs : (s.toBitVec.smod 32).toNat = k) : nI n >>> s = nI (n / 2 ^ k) := by
  apply Int32.toInt_inj.mp
  have h2 : n / 2 ^ k ≤ n := Nat.div_le_self _ _
  rw [pk_shr _ _ k hs, nI_toInt h, nI_toInt (by omega), Int.shiftRight_eq_div_pow]
  rfl
theorem pk_least (P : Nat → Prop) (h : ∃ k, P k) : ∃ k, P k ∧ ∀ j, j < k → ¬ P j := by
  obtain ⟨k, hk⟩ := h
  induction k using Nat.strongRecOn with
  | ind k ih =>
    by_cases e : ∃ j, j < k ∧ P j
    · obtain ⟨j, hj, pj⟩ := e
      exact ih j hj pj
    · exact ⟨k, hk, fun j hj pj => e ⟨j, hj, pj⟩⟩
/-! ===== Int32 by its bits: bt x i ===== -/
def bt (x : Int32) (i : Nat) : Bool := x.toBitVec.getLsbD i
theorem b_ext {x y : Int32} (h : ∀ i, i < 32 → bt x i = bt y i) : x = y := Int32.toBitVec_inj.mp (BitVec.eq_of_getLsbD_eq (fun i hi => h i hi))
theorem b_or (x y : Int32) (i : Nat) : bt (x ||| y) i = (bt x i || bt y i) := by unfold bt; rw [Int32.toBitVec_or, BitVec.getLsbD_or]
theorem b_and (x y : Int32) (i : Nat) : bt (x &&& y) i = (bt x i && bt y i) := by unfold bt; rw [Int32.toBitVec_and, BitVec.getLsbD_and]
theorem b_xor (x y : Int32) (i : Nat) : bt (x ^^^ y) i = (bt x i ^^ bt y i) := by unfold bt; rw [Int32.toBitVec_xor, BitVec.getLsbD_xor]
theorem b_big {x : Int32} {i : Nat} (h : 32 ≤ i) : bt x i = false := BitVec.getLsbD_of_ge _ _ h
theorem b_255 (i : Nat) : bt 255 i = decide (i < 8) := by
  rcases Nat.lt_or_ge i 32 with h | h
  · exact (by decide +kernel : ∀ i, i < 32 → bt 255 i = decide (i < 8)) i h
  · rw [b_big h, decide_eq_false (by omega)]
theorem b_65535 (i : Nat) : bt 65535 i = decide (i < 16) := by
  rcases Nat.lt_or_ge i 32 with h | h
  · exact (by decide +kernel : ∀ i, i < 32 → bt 65535 i = decide (i < 16)) i h
  · rw [b_big h, decide_eq_false (by omega)]
theorem b_m1 : ∀ i, i < 32 → bt (-1) i = true := by decide +kernel
theorem b_0 (i : Nat) : bt 0 i = false := BitVec.getLsbD_zero
theorem s_l : ∀ n, n < 32 → ((nI n &&& 31).toBitVec.smod 32).toNat = n := by decide +kernel
theorem s_u : ∀ n, n < 32 → (((nI n).toUInt32 &&& Int32.toUInt32 31).toBitVec % 32).toNat = n := by decide +kernel
theorem b_shl (n : Nat) (hn : n < 32) (x : Int32) {i : Nat} (hi : i < 32) : bt (x <<< (nI n &&& 31)) i = (decide (n ≤ i) && bt x (i - n)) := by
  unfold bt
  rw [Int32.toBitVec_shiftLeft]
  show (x.toBitVec <<< ((nI n &&& 31).toBitVec.smod 32).toNat).getLsbD i = _
  rw [s_l n hn, BitVec.getLsbD_shiftLeft]
  rcases Nat.lt_or_ge i n with h | h
  · simp [h, Nat.not_le.mpr h]
  · simp [hi, h, Nat.not_lt.mpr h]
end
section
/-! small encodings: naturals, booleans and optional spots as ints -/
def nA (f : Nat → Nat) : Nat → Int32 := fun j => nI (f j)
theorem na_ap (f : Nat → Nat) (j : Nat) : nA f j = nI (f j) := rfl
def bI (b : Bool) : Int32 := if b = true then 1 else 0
def bA (f : Nat → Bool) : Nat → Int32 := fun j => bI (f j)
theorem ba_ap (f : Nat → Bool) (j : Nat) : bA f j = bI (f j) := rfl
theorem bi_t : bI true = 1 := rfl
theorem bi_f : bI false = 0 := rfl
theorem bi_0 (b : Bool) : bI b = 0 ↔ b = false := by cases b <;> decide
def oI : Option Nat → Int32
  | none => -1
  | some t => nI t
theorem oi_n : oI none = -1 := rfl
theorem oi_s (t : Nat) : oI (some t) = nI t := rfl
theorem li_lt0 {a : Nat} (h : a < 2 ^ 31) : nI a < 0 ↔ a < 0 := nI_ltI (b := 0) h (by decide)
theorem li_le0 {a : Nat} (h : a < 2 ^ 31) : nI a ≤ 0 ↔ a ≤ 0 := nI_leI (b := 0) h (by decide)
theorem li_eq0 {a : Nat} (h : a < 2 ^ 31) : nI a = 0 ↔ a = 0 := nI_eq (b := 0) h (by decide)
theorem li_tl0 {a : Nat} (h : a < 2 ^ 31) : 0 < nI a ↔ 0 < a := nI_ltI (a := 0) (by decide) h
theorem li_el0 {a : Nat} (h : a < 2 ^ 31) : 0 ≤ nI a ↔ 0 ≤ a := nI_leI (a := 0) (by decide) h
theorem li_lt1 {a : Nat} (h : a < 2 ^ 31) : nI a < 1 ↔ a < 1 := nI_ltI (b := 1) h (by decide)
theorem li_le1 {a : Nat} (h : a < 2 ^ 31) : nI a ≤ 1 ↔ a ≤ 1 := nI_leI (b := 1) h (by decide)
theorem li_eq1 {a : Nat} (h : a < 2 ^ 31) : nI a = 1 ↔ a = 1 := nI_eq (b := 1) h (by decide)
theorem li_tl1 {a : Nat} (h : a < 2 ^ 31) : 1 < nI a ↔ 1 < a := nI_ltI (a := 1) (by decide) h
theorem li_el1 {a : Nat} (h : a < 2 ^ 31) : 1 ≤ nI a ↔ 1 ≤ a := nI_leI (a := 1) (by decide) h
theorem li_lt2 {a : Nat} (h : a < 2 ^ 31) : nI a < 2 ↔ a < 2 := nI_ltI (b := 2) h (by decide)
theorem li_le2 {a : Nat} (h : a < 2 ^ 31) : nI a ≤ 2 ↔ a ≤ 2 := nI_leI (b := 2) h (by decide)
theorem li_eq2 {a : Nat} (h : a < 2 ^ 31) : nI a = 2 ↔ a = 2 := nI_eq (b := 2) h (by decide)
theorem li_tl2 {a : Nat} (h : a < 2 ^ 31) : 2 < nI a ↔ 2 < a := nI_ltI (a := 2) (by decide) h
theorem li_el2 {a : Nat} (h : a < 2 ^ 31) : 2 ≤ nI a ↔ 2 ≤ a := nI_leI (a := 2) (by decide) h
theorem li_lt3 {a : Nat} (h : a < 2 ^ 31) : nI a < 3 ↔ a < 3 := nI_ltI (b := 3) h (by decide)
theorem li_le3 {a : Nat} (h : a < 2 ^ 31) : nI a ≤ 3 ↔ a ≤ 3 := nI_leI (b := 3) h (by decide)
theorem li_eq3 {a : Nat} (h : a < 2 ^ 31) : nI a = 3 ↔ a = 3 := nI_eq (b := 3) h (by decide)
theorem li_tl3 {a : Nat} (h : a < 2 ^ 31) : 3 < nI a ↔ 3 < a := nI_ltI (a := 3) (by decide) h
theorem li_el3 {a : Nat} (h : a < 2 ^ 31) : 3 ≤ nI a ↔ 3 ≤ a := nI_leI (a := 3) (by decide) h
theorem li_lt4 {a : Nat} (h : a < 2 ^ 31) : nI a < 4 ↔ a < 4 := nI_ltI (b := 4) h (by decide)
theorem li_le4 {a : Nat} (h : a < 2 ^ 31) : nI a ≤ 4 ↔ a ≤ 4 := nI_leI (b := 4) h (by decide)
theorem li_eq4 {a : Nat} (h : a < 2 ^ 31) : nI a = 4 ↔ a = 4 := nI_eq (b := 4) h (by decide)
theorem li_tl4 {a : Nat} (h : a < 2 ^ 31) : 4 < nI a ↔ 4 < a := nI_ltI (a := 4) (by decide) h
theorem li_el4 {a : Nat} (h : a < 2 ^ 31) : 4 ≤ nI a ↔ 4 ≤ a := nI_leI (a := 4) (by decide) h
theorem li_lt5 {a : Nat} (h : a < 2 ^ 31) : nI a < 5 ↔ a < 5 := nI_ltI (b := 5) h (by decide)
theorem li_le5 {a : Nat} (h : a < 2 ^ 31) : nI a ≤ 5 ↔ a ≤ 5 := nI_leI (b := 5) h (by decide)
theorem li_eq5 {a : Nat} (h : a < 2 ^ 31) : nI a = 5 ↔ a = 5 := nI_eq (b := 5) h (by decide)
theorem li_tl5 {a : Nat} (h : a < 2 ^ 31) : 5 < nI a ↔ 5 < a := nI_ltI (a := 5) (by decide) h
theorem li_el5 {a : Nat} (h : a < 2 ^ 31) : 5 ≤ nI a ↔ 5 ≤ a := nI_leI (a := 5) (by decide) h
theorem li_lt6 {a : Nat} (h : a < 2 ^ 31) : nI a < 6 ↔ a < 6 := nI_ltI (b := 6) h (by decide)
theorem li_le6 {a : Nat} (h : a < 2 ^ 31) : nI a ≤ 6 ↔ a ≤ 6 := nI_leI (b := 6) h (by decide)
theorem li_eq6 {a : Nat} (h : a < 2 ^ 31) : nI a = 6 ↔ a = 6 := nI_eq (b := 6) h (by decide)
theorem li_tl6 {a : Nat} (h : a < 2 ^ 31) : 6 < nI a ↔ 6 < a := nI_ltI (a := 6) (by decide) h
theorem li_el6 {a : Nat} (h : a < 2 ^ 31) : 6 ≤ nI a ↔ 6 ≤ a := nI_leI (a := 6) (by decide) h
theorem li_lt7 {a : Nat} (h : a < 2 ^ 31) : nI a < 7 ↔ a < 7 := nI_ltI (b := 7) h (by decide)
theorem li_le7 {a : Nat} (h : a < 2 ^ 31) : nI a ≤ 7 ↔ a ≤ 7 := nI_leI (b := 7) h (by decide)
theorem li_eq7 {a : Nat} (h : a < 2 ^ 31) : nI a = 7 ↔ a = 7 := nI_eq (b := 7) h (by decide)
theorem li_tl7 {a : Nat} (h : a < 2 ^ 31) : 7 < nI a ↔ 7 < a := nI_ltI (a := 7) (by decide) h
theorem li_el7 {a : Nat} (h : a < 2 ^ 31) : 7 ≤ nI a ↔ 7 ≤ a := nI_leI (a := 7) (by decide) h
theorem li_lt8 {a : Nat} (h : a < 2 ^ 31) : nI a < 8 ↔ a < 8 := nI_ltI (b := 8) h (by decide)
theorem li_le8 {a : Nat} (h : a < 2 ^ 31) : nI a ≤ 8 ↔ a ≤ 8 := nI_leI (b := 8) h (by decide)
theorem li_eq8 {a : Nat} (h : a < 2 ^ 31) : nI a = 8 ↔ a = 8 := nI_eq (b := 8) h (by decide)
theorem li_tl8 {a : Nat} (h : a < 2 ^ 31) : 8 < nI a ↔ 8 < a := nI_ltI (a := 8) (by decide) h
theorem li_el8 {a : Nat} (h : a < 2 ^ 31) : 8 ≤ nI a ↔ 8 ≤ a := nI_leI (a := 8) (by decide) h
theorem li_lt9 {a : Nat} (h : a < 2 ^ 31) : nI a < 9 ↔ a < 9 := nI_ltI (b := 9) h (by decide)
theorem li_le9 {a : Nat} (h : a < 2 ^ 31) : nI a ≤ 9 ↔ a ≤ 9 := nI_leI (b := 9) h (by decide)
theorem li_eq9 {a : Nat} (h : a < 2 ^ 31) : nI a = 9 ↔ a = 9 := nI_eq (b := 9) h (by decide)
theorem li_tl9 {a : Nat} (h : a < 2 ^ 31) : 9 < nI a ↔ 9 < a := nI_ltI (a := 9) (by decide) h
theorem li_el9 {a : Nat} (h : a < 2 ^ 31) : 9 ≤ nI a ↔ 9 ≤ a := nI_leI (a := 9) (by decide) h
theorem li_lt10 {a : Nat} (h : a < 2 ^ 31) : nI a < 10 ↔ a < 10 := nI_ltI (b := 10) h (by decide)
theorem li_le10 {a : Nat} (h : a < 2 ^ 31) : nI a ≤ 10 ↔ a ≤ 10 := nI_leI (b := 10) h (by decide)
theorem li_eq10 {a : Nat} (h : a < 2 ^ 31) : nI a = 10 ↔ a = 10 := nI_eq (b := 10) h (by decide)
theorem li_tl10 {a : Nat} (h : a < 2 ^ 31) : 10 < nI a ↔ 10 < a := nI_ltI (a := 10) (by decide) h
theorem li_el10 {a : Nat} (h : a < 2 ^ 31) : 10 ≤ nI a ↔ 10 ≤ a := nI_leI (a := 10) (by decide) h
theorem li_lt11 {a : Nat} (h : a < 2 ^ 31) : nI a < 11 ↔ a < 11 := nI_ltI (b := 11) h (by decide)
theorem li_le11 {a : Nat} (h : a < 2 ^ 31) : nI a ≤ 11 ↔ a ≤ 11 := nI_leI (b := 11) h (by decide)
theorem li_eq11 {a : Nat} (h : a < 2 ^ 31) : nI a = 11 ↔ a = 11 := nI_eq (b := 11) h (by decide)
theorem li_tl11 {a : Nat} (h : a < 2 ^ 31) : 11 < nI a ↔ 11 < a := nI_ltI (a := 11) (by decide) h
theorem li_el11 {a : Nat} (h : a < 2 ^ 31) : 11 ≤ nI a ↔ 11 ≤ a := nI_leI (a := 11) (by decide) h
theorem li_lt12 {a : Nat} (h : a < 2 ^ 31) : nI a < 12 ↔ a < 12 := nI_ltI (b := 12) h (by decide)
theorem li_le12 {a : Nat} (h : a < 2 ^ 31) : nI a ≤ 12 ↔ a ≤ 12 := nI_leI (b := 12) h (by decide)
theorem li_eq12 {a : Nat} (h : a < 2 ^ 31) : nI a = 12 ↔ a = 12 := nI_eq (b := 12) h (by decide)
theorem li_tl12 {a : Nat} (h : a < 2 ^ 31) : 12 < nI a ↔ 12 < a := nI_ltI (a := 12) (by decide) h
theorem li_el12 {a : Nat} (h : a < 2 ^ 31) : 12 ≤ nI a ↔ 12 ≤ a := nI_leI (a := 12) (by decide) h
theorem li_lt13 {a : Nat} (h : a < 2 ^ 31) : nI a < 13 ↔ a < 13 := nI_ltI (b := 13) h (by decide)
theorem li_le13 {a : Nat} (h : a < 2 ^ 31) : nI a ≤ 13 ↔ a ≤ 13 := nI_leI (b := 13) h (by decide)
theorem li_eq13 {a : Nat} (h : a < 2 ^ 31) : nI a = 13 ↔ a = 13 := nI_eq (b := 13) h (by decide)
theorem li_tl13 {a : Nat} (h : a < 2 ^ 31) : 13 < nI a ↔ 13 < a := nI_ltI (a := 13) (by decide) h
theorem li_el13 {a : Nat} (h : a < 2 ^ 31) : 13 ≤ nI a ↔ 13 ≤ a := nI_leI (a := 13) (by decide) h
theorem li_lt16 {a : Nat} (h : a < 2 ^ 31) : nI a < 16 ↔ a < 16 := nI_ltI (b := 16) h (by decide)
theorem li_le16 {a : Nat} (h : a < 2 ^ 31) : nI a ≤ 16 ↔ a ≤ 16 := nI_leI (b := 16) h (by decide)
theorem li_eq16 {a : Nat} (h : a < 2 ^ 31) : nI a = 16 ↔ a = 16 := nI_eq (b := 16) h (by decide)
theorem li_tl16 {a : Nat} (h : a < 2 ^ 31) : 16 < nI a ↔ 16 < a := nI_ltI (a := 16) (by decide) h
theorem li_el16 {a : Nat} (h : a < 2 ^ 31) : 16 ≤ nI a ↔ 16 ≤ a := nI_leI (a := 16) (by decide) h
theorem li_lt128 {a : Nat} (h : a < 2 ^ 31) : nI a < 128 ↔ a < 128 := nI_ltI (b := 128) h (by decide)
theorem li_le128 {a : Nat} (h : a < 2 ^ 31) : nI a ≤ 128 ↔ a ≤ 128 := nI_leI (b := 128) h (by decide)
theorem li_eq128 {a : Nat} (h : a < 2 ^ 31) : nI a = 128 ↔ a = 128 := nI_eq (b := 128) h (by decide)
theorem li_tl128 {a : Nat} (h : a < 2 ^ 31) : 128 < nI a ↔ 128 < a := nI_ltI (a := 128) (by decide) h
theorem li_el128 {a : Nat} (h : a < 2 ^ 31) : 128 ≤ nI a ↔ 128 ≤ a := nI_leI (a := 128) (by decide) h
theorem li_lt144 {a : Nat} (h : a < 2 ^ 31) : nI a < 144 ↔ a < 144 := nI_ltI (b := 144) h (by decide)
theorem li_le144 {a : Nat} (h : a < 2 ^ 31) : nI a ≤ 144 ↔ a ≤ 144 := nI_leI (b := 144) h (by decide)
theorem li_eq144 {a : Nat} (h : a < 2 ^ 31) : nI a = 144 ↔ a = 144 := nI_eq (b := 144) h (by decide)
theorem li_tl144 {a : Nat} (h : a < 2 ^ 31) : 144 < nI a ↔ 144 < a := nI_ltI (a := 144) (by decide) h
theorem li_el144 {a : Nat} (h : a < 2 ^ 31) : 144 ≤ nI a ↔ 144 ≤ a := nI_leI (a := 144) (by decide) h
theorem li_lt192 {a : Nat} (h : a < 2 ^ 31) : nI a < 192 ↔ a < 192 := nI_ltI (b := 192) h (by decide)
theorem li_le192 {a : Nat} (h : a < 2 ^ 31) : nI a ≤ 192 ↔ a ≤ 192 := nI_leI (b := 192) h (by decide)
theorem li_eq192 {a : Nat} (h : a < 2 ^ 31) : nI a = 192 ↔ a = 192 := nI_eq (b := 192) h (by decide)
theorem li_tl192 {a : Nat} (h : a < 2 ^ 31) : 192 < nI a ↔ 192 < a := nI_ltI (a := 192) (by decide) h
theorem li_el192 {a : Nat} (h : a < 2 ^ 31) : 192 ≤ nI a ↔ 192 ≤ a := nI_leI (a := 192) (by decide) h
theorem li_lt400 {a : Nat} (h : a < 2 ^ 31) : nI a < 400 ↔ a < 400 := nI_ltI (b := 400) h (by decide)
theorem li_le400 {a : Nat} (h : a < 2 ^ 31) : nI a ≤ 400 ↔ a ≤ 400 := nI_leI (b := 400) h (by decide)
theorem li_eq400 {a : Nat} (h : a < 2 ^ 31) : nI a = 400 ↔ a = 400 := nI_eq (b := 400) h (by decide)
theorem li_tl400 {a : Nat} (h : a < 2 ^ 31) : 400 < nI a ↔ 400 < a := nI_ltI (a := 400) (by decide) h
theorem li_el400 {a : Nat} (h : a < 2 ^ 31) : 400 ≤ nI a ↔ 400 ≤ a := nI_leI (a := 400) (by decide) h
theorem li_m16 (a : Nat) : nI a * 16 = nI (a * 16) := pk_mul a 16
theorem li_m12 (a : Nat) : nI a * 12 = nI (a * 12) := pk_mul a 12
theorem li_10 : ((1 : Int32) = 0) = False := eq_false (by decide)
theorem li_01 : ((0 : Int32) = 1) = False := eq_false (by decide)
theorem li_n0 : ((-1 : Int32) < 0) = True := eq_true (by decide)
theorem li_0n : ((0 : Int32) ≤ -1) = False := eq_false (by decide)
theorem li_n1 : ((-2 : Int32) < 0) = True := eq_true (by decide)
theorem li_nz : ((-1 : Int32) = 0) = False := eq_false (by decide)
theorem li_na {a : Nat} (h : a < 2 ^ 31) : ((-1 : Int32) = nI a) = False := eq_false (fun e => nI_pos h (e ▸ (by decide)))
theorem li_nb {a : Nat} (h : a < 2 ^ 31) : (nI a = (-1 : Int32)) = False := eq_false (fun e => nI_pos h (e ▸ (by decide)))
theorem li_pr (a : Nat) : nI (a + 1) - 1 = nI a := nI_pred a
theorem li_m1 (a : Nat) : nI (a + 1) + (-1) = nI a := pk_m1 a
theorem li_sh {a : Nat} (h : a < 2 ^ 31) : nI a >>> ((4 : Int32) &&& 31) = nI (a / 16) := pk_shrN h _ 4 (by decide)
theorem li_an {a : Nat} (h : a < 2 ^ 31) : nI a &&& 15 = nI (a % 16) := pk_andN (by omega) 4 (by decide)
theorem li_v0 : vp_nar .boolean 0 = 0 := rfl
theorem li_v1 : vp_nar .boolean 1 = 1 := rfl
theorem li_sb {a : Nat} (h : 1 ≤ a) : nI a - 1 = nI (a - 1) := pk_sub (b := 1) h
end
section
/-! counting, and the loading of modules -/
def cb (p : Nat → Bool) : Nat → Nat
  | 0 => 0
  | n + 1 => cb p n + (if p n = true then 1 else 0)
theorem cb_le (p : Nat → Bool) : ∀ n, cb p n ≤ n
  | 0 => Nat.le_refl _
  | n + 1 => by
    have := cb_le p n
    simp only [cb]
    split <;> omega
theorem cb_mono {p q : Nat → Bool} : ∀ {n : Nat}, (∀ i, i < n → p i = true → q i = true) → cb p n ≤ cb q n
  | 0, _ => Nat.le_refl _
  | n + 1, h => by
    have a := cb_mono (p := p) (q := q) (n := n) (fun i hi => h i (by omega))
    have b := h n (by omega)
    simp only [cb]
    by_cases hp : p n = true
    · rw [if_pos hp, if_pos (b hp)]; omega
    · rw [if_neg hp]; omega
theorem cb_lt {p q : Nat → Bool} {a : Nat} (hp : ¬ p a = true) (hq : q a = true) : ∀ {n : Nat}, (∀ i, i < n → p i = true → q i = true) → a < n → cb p n < cb q n
  | 0, _, h => by omega
  | n + 1, h, ha => by
    simp only [cb]
    rcases Nat.lt_or_ge a n with z | z
    · have x := cb_lt hp hq (n := n) (fun i hi => h i (by omega)) z
      have b := h n (by omega)
      by_cases hn : p n = true
      · rw [if_pos hn, if_pos (b hn)]; omega
      · rw [if_neg hn]; omega
    · have e : a = n := by omega
      subst e
      have x := cb_mono (p := p) (q := q) (n := a) (fun i hi => h i (by omega))
      rw [if_pos hq, if_neg hp]; omega
theorem cb_eq {p q : Nat → Bool} {n : Nat} (h : ∀ i, i < n → p i = q i) : cb p n = cb q n :=
  Nat.le_antisymm (cb_mono fun i hi z => by rw [← h i hi]; exact z) (cb_mono fun i hi z => by rw [h i hi]; exact z)
theorem cb_ltn {p : Nat → Bool} {a n : Nat} (hp : ¬ p a = true) (ha : a < n) : cb p n < n := by
  have h := cb_lt (p := p) (q := fun _ => true) hp rfl (n := n) (fun _ _ _ => rfl) ha
  have := cb_le (fun _ => true) n
  omega
theorem cb_pos {p : Nat → Bool} {a n : Nat} (hp : p a = true) (ha : a < n) : 0 < cb p n := by
  have h := cb_lt (p := fun _ => false) (q := p) (a := a) (by simp) hp (n := n) (fun _ _ h => by simp at h) ha
  omega
def ub (p : Nat → Bool) (a : Nat) (b : Bool) : Nat → Bool := fun j => if j = a then b else p j
theorem ub_s (p : Nat → Bool) (a : Nat) (b : Bool) : ub p a b a = b := if_pos rfl
theorem ub_n {p : Nat → Bool} {a j : Nat} {b : Bool} (h : j ≠ a) : ub p a b j = p j := if_neg h
theorem cb_add {p : Nat → Bool} {a : Nat} (hp : p a = false) : ∀ {n : Nat}, a < n → cb (ub p a true) n = cb p n + 1
  | 0, h => by omega
  | n + 1, h => by
    simp only [cb]
    rcases Nat.lt_or_ge a n with z | z
    · rw [cb_add hp z, ub_n (by omega)]; omega
    · have e : a = n := by omega
      subst e
      rw [ub_s, if_pos rfl, hp, if_neg (by simp), cb_eq (p := ub p a true) (q := p) (fun i hi => ub_n (by omega))]
theorem cb_full {p : Nat → Bool} {n : Nat} (h : n ≤ cb p n) {a : Nat} (ha : a < n) : p a = true := by
  cases e : p a with
  | true => rfl
  | false =>
    have := cb_ltn (p := p) (a := a) (n := n) (by rw [e]; simp) ha
    omega
theorem bo_n {b : Bool} (h : ¬ b = true) : b = false := by cases b <;> simp_all
theorem bo_t {b : Bool} (h : ¬ b = false) : b = true := by cases b <;> simp_all
theorem bo_c {b : Bool} (h : b = false) : ¬ b = true := by rw [h]; simp
theorem bo_d {b : Bool} (h : b = true) : ¬ b = false := by rw [h]; simp
section
variable (M : Nat) (dm wq : Nat → Nat → Bool) (e : Nat)
def pl_nd (ld : Nat → Bool) (n : Nat) : Prop := (n = e ∨ ∃ m, m < M ∧ ld m = true ∧ wq m n = true) ∧ ∀ m, m < M → ld m = true → dm m n = false
def pl_pv (ld : Nat → Bool) (m : Nat) : Prop := m < M ∧ ld m = false ∧ ∃ n, dm m n = true ∧ pl_nd M dm wq e ld n
def pl_st (ld ld' : Nat → Bool) : Prop := (∃ m, pl_pv M dm wq e ld m ∧ (∀ j, j < m → ¬ pl_pv M dm wq e ld j) ∧ ld' = ub ld m true) ∨ ((∀ m, ¬ pl_pv M dm wq e ld m) ∧ ld' = ld)
theorem pl_ex (ld : Nat → Bool) : ∃ ld', pl_st M dm wq e ld ld' := by
  by_cases h : ∃ m, pl_pv M dm wq e ld m
  · obtain ⟨m, h1, h2⟩ := pk_least _ h
    exact ⟨_, Or.inl ⟨m, h1, h2, rfl⟩⟩
  · exact ⟨ld, Or.inr ⟨fun m hm => h ⟨m, hm⟩, rfl⟩⟩
noncomputable def pl_sq (ld : Nat → Bool) : Nat → Nat → Bool
  | 0 => ld
  | k + 1 => Classical.choose (pl_ex M dm wq e (pl_sq ld k))
theorem pl_ss (ld : Nat → Bool) (k : Nat) : pl_st M dm wq e (pl_sq M dm wq e ld k) (pl_sq M dm wq e ld (k + 1)) :=
  Classical.choose_spec (pl_ex M dm wq e (pl_sq M dm wq e ld k))
end
section
variable {M : Nat} {dm wq : Nat → Nat → Bool} {e : Nat}
theorem pl_s1 {ld : Nat → Bool} {k m : Nat} (h : pl_pv M dm wq e (pl_sq M dm wq e ld k) m) (hl : ∀ j, j < m → ¬ pl_pv M dm wq e (pl_sq M dm wq e ld k) j) : pl_sq M dm wq e ld (k + 1) = ub (pl_sq M dm wq e ld k) m true := by
  rcases pl_ss M dm wq e ld k with ⟨m', h1, h2, h3⟩ | ⟨h1, _⟩
  · have : m' = m := by
      rcases Nat.lt_trichotomy m' m with z | z | z
      · exact absurd h1 (hl _ z)
      · exact z
      · exact absurd h (h2 _ z)
    rw [h3, this]
  · exact absurd h (h1 m)
theorem pl_s0 {ld : Nat → Bool} {k : Nat} (h : ∀ m, ¬ pl_pv M dm wq e (pl_sq M dm wq e ld k) m) : ∀ j, pl_sq M dm wq e ld (k + j) = pl_sq M dm wq e ld k := by
  intro j
  induction j with
  | zero => rfl
  | succ j ih =>
    rcases pl_ss M dm wq e ld (k + j) with ⟨m', h1, _⟩ | ⟨_, h2⟩
    · rw [ih] at h1
      exact absurd h1 (h m')
    · show pl_sq M dm wq e ld (k + j + 1) = _
      rw [h2, ih]
theorem pl_cnt (ld : Nat → Bool) : ∀ k, (∀ m, ¬ pl_pv M dm wq e (pl_sq M dm wq e ld k) m) ∨ k ≤ cb (pl_sq M dm wq e ld k) M := by
  intro k
  induction k with
  | zero => exact Or.inr (Nat.zero_le _)
  | succ k ih =>
    rcases ih with h | h
    · left
      rw [pl_s0 h 1]
      exact h
    · by_cases hx : ∃ m, pl_pv M dm wq e (pl_sq M dm wq e ld k) m
      · obtain ⟨m, h1, h2⟩ := pk_least _ hx
        right
        rw [pl_s1 h1 h2, cb_add h1.2.1 h1.1]
        omega
      · left
        have h' : ∀ m, ¬ pl_pv M dm wq e (pl_sq M dm wq e ld k) m := fun m hm => hx ⟨m, hm⟩
        rw [pl_s0 h' 1]
        exact h'
theorem pl_end (ld : Nat → Bool) : ∀ m, ¬ pl_pv M dm wq e (pl_sq M dm wq e ld M) m := by
  rcases pl_cnt (M := M) (dm := dm) (wq := wq) (e := e) ld M with h | h
  · exact h
  · intro m hm
    have := cb_full h hm.1
    rw [hm.2.1] at this
    cases this
theorem pl_8 (hM : M ≤ 8) (ld : Nat → Bool) : pl_sq M dm wq e ld 8 = pl_sq M dm wq e ld M := by
  have := pl_s0 (pl_end (M := M) (dm := dm) (wq := wq) (e := e) ld) (8 - M)
  rw [← this]
  congr 1
  omega
theorem pl_8k {ld : Nat → Bool} {k : Nat} (hk : k ≤ 8) (h : ∀ m, ¬ pl_pv M dm wq e (pl_sq M dm wq e ld k) m) : pl_sq M dm wq e ld 8 = pl_sq M dm wq e ld k := by
  rw [← pl_s0 h (8 - k)]
  congr 1
  omega
end
/-! duplicates and resolution -/
def pl_dup (M : Nat) (ds : Nat → Nat → Bool) (ld : Nat → Bool) : Prop := ∃ m m' n, m < m' ∧ m' < M ∧ ld m = true ∧ ld m' = true ∧ ds m n = true ∧ ds m' n = true
def pl_rs (M : Nat) (dm ds : Nat → Nat → Bool) (dp : Nat → Nat → Nat) (ld : Nat → Bool) (n : Nat) (o : Option Nat) : Prop :=
  (∃ m, m < M ∧ ld m = true ∧ ds m n = true ∧ o = some (dp m n)) ∨ ((∀ m, m < M → ld m = true → ds m n = false) ∧ ∃ m, m < M ∧ ld m = true ∧ dm m n = true ∧ (∀ j, j < m → ld j = true → dm j n = false) ∧ o = some (dp m n)) ∨ ((∀ m, m < M → ld m = true → dm m n = false) ∧ o = none)
theorem pl_rsu {M : Nat} {dm ds : Nat → Nat → Bool} {dp : Nat → Nat → Nat} {ld : Nat → Bool} {n : Nat} {o o' : Option Nat} (hd : ∀ m n, ds m n = true → dm m n = true) (hn : ¬ pl_dup M ds ld) (h : pl_rs M dm ds dp ld n o) (h' : pl_rs M dm ds dp ld n o') : o = o' := by
  rcases h with ⟨m, a1, a2, a3, a4⟩ | ⟨a0, m, a1, a2, a3, a4, a5⟩ | ⟨a1, a2⟩ <;> rcases h' with ⟨m', b1, b2, b3, b4⟩ | ⟨b0, m', b1, b2, b3, b4, b5⟩ | ⟨b1, b2⟩
  · have : m = m' := by
      rcases Nat.lt_trichotomy m m' with z | z | z
      · exact absurd ⟨m, m', n, z, b1, a2, b2, a3, b3⟩ hn
      · exact z
      · exact absurd ⟨m', m, n, z, a1, b2, a2, b3, a3⟩ hn
    rw [a4, b4, this]
  · rw [b0 m a1 a2] at a3; cases a3
  · have := b1 m a1 a2
    rw [hd m n a3] at this; cases this
  · rw [a0 m' b1 b2] at b3; cases b3
  · have : m = m' := by
      rcases Nat.lt_trichotomy m m' with z | z | z
      · have := b4 m z a2
        rw [a3] at this; cases this
      · exact z
      · have := a4 m' z b2
        rw [b3] at this; cases this
    rw [a5, b5, this]
  · have := b1 m a1 a2
    rw [a3] at this; cases this
  · have := a1 m' b1 b2
    rw [hd m' n b3] at this; cases this
  · have := a1 m' b1 b2
    rw [b3] at this; cases this
  · rw [a2, b2]
theorem pl_rsx (M : Nat) (dm ds : Nat → Nat → Bool) (dp : Nat → Nat → Nat) (ld : Nat → Bool) (n : Nat) : ∃ o, pl_rs M dm ds dp ld n o := by
  by_cases h : ∃ m, m < M ∧ ld m = true ∧ ds m n = true
  · obtain ⟨m, h1, h2, h3⟩ := h
    exact ⟨_, Or.inl ⟨m, h1, h2, h3, rfl⟩⟩
  · have h' : ∀ m, m < M → ld m = true → ds m n = false := fun m a b => bo_n (fun c => h ⟨m, a, b, c⟩)
    by_cases g : ∃ m, m < M ∧ ld m = true ∧ dm m n = true
    · obtain ⟨m, ⟨g1, g2, g3⟩, g4⟩ := pk_least _ g
      exact ⟨_, Or.inr (Or.inl ⟨h', m, g1, g2, g3, fun j hj hl => bo_n (fun c => g4 j hj ⟨by omega, hl, c⟩), rfl⟩)⟩
    · exact ⟨_, Or.inr (Or.inr ⟨fun m a b => bo_n (fun c => g ⟨m, a, b, c⟩), rfl⟩)⟩
end
section
/-! live sections, pinned ones, and folding as a greatest relation; ct c is the target of the cell c -/
section
variable (le op : Nat → Nat) (ar : Nat → Int32) (ct : Nat → Option Nat) (wk : Nat → Bool) (e0 : Nat)
def pf_cl (Q : Nat → Prop) : Prop := ∀ c x, Q (c / 16) → c % 16 < le (c / 16) → ct c = some x → Q (x / 16)
def pf_lv (s : Nat) : Prop := ∀ Q : Nat → Prop, Q e0 → pf_cl le ct Q → Q s
def pf_bad (lv : Nat → Prop) : Prop := ∃ c, lv (c / 16) ∧ c % 16 < le (c / 16) ∧ 7 ≤ op c ∧ wk c = false ∧ ct c = none
def pf_pn (lv : Nat → Prop) (s : Nat) : Prop := ∃ c x, lv (c / 16) ∧ c % 16 < le (c / 16) ∧ (op c = 11 ∨ op c = 13) ∧ ct c = some x ∧ x / 16 = s
def pf_ca (R : Nat → Nat → Prop) (a b : Nat) : Prop := op a = op b ∧ (op a < 7 → ar a = ar b) ∧ ((ct a = none ∧ ct b = none) ∨ ∃ u v, ct a = some u ∧ ct b = some v ∧ u % 16 = v % 16 ∧ R (u / 16) (v / 16))
def pf_al (R : Nat → Nat → Prop) (s t : Nat) : Prop := le s = le t ∧ ∀ o, o < le s → pf_ca op ar ct R (s * 16 + o) (t * 16 + o)
def pf_in (lv pn : Nat → Prop) (s t : Nat) : Prop := lv s ∧ lv t ∧ (s = t ∨ (¬ pn s ∧ ¬ pn t))
def pf_pf (lv pn : Nat → Prop) (R : Nat → Nat → Prop) : Prop := ∀ s t, R s t → pf_in lv pn s t ∧ (s = t ∨ pf_al le op ar ct R s t)
def pf_gf (lv pn : Nat → Prop) (s t : Nat) : Prop := ∃ R, pf_pf le op ar ct lv pn R ∧ R s t
end
section
variable {le op : Nat → Nat} {ar : Nat → Int32} {ct : Nat → Option Nat} {wk : Nat → Bool} {e0 : Nat}
theorem pf_l0 : pf_lv le ct e0 e0 := fun _ h _ => h
theorem pf_lc : pf_cl le ct (pf_lv le ct e0) := fun c x h1 h2 h3 Q q0 qc => qc c x (h1 Q q0 qc) h2 h3
theorem pf_cm {R R' : Nat → Nat → Prop} (h : ∀ x y, R x y → R' x y) {a b : Nat} (c : pf_ca op ar ct R a b) : pf_ca op ar ct R' a b := by
  obtain ⟨h1, h2, h3⟩ := c
  refine ⟨h1, h2, ?_⟩
  rcases h3 with h3 | ⟨u, v, a1, a2, a3, a4⟩
  · exact Or.inl h3
  · exact Or.inr ⟨u, v, a1, a2, a3, h _ _ a4⟩
theorem pf_am {R R' : Nat → Nat → Prop} (h : ∀ x y, R x y → R' x y) {s t : Nat} (c : pf_al le op ar ct R s t) : pf_al le op ar ct R' s t :=
  ⟨c.1, fun o ho => pf_cm h (c.2 o ho)⟩
theorem pf_gp {lv pn : Nat → Prop} : pf_pf le op ar ct lv pn (pf_gf le op ar ct lv pn) := by
  intro s t h
  obtain ⟨R, hR, h⟩ := h
  obtain ⟨h1, h2⟩ := hR s t h
  refine ⟨h1, ?_⟩
  rcases h2 with h2 | h2
  · exact Or.inl h2
  · exact Or.inr (pf_am (fun x y hxy => ⟨R, hR, hxy⟩) h2)
theorem pf_gr {lv pn : Nat → Prop} {s : Nat} (h : lv s) : pf_gf le op ar ct lv pn s s :=
  ⟨fun a b => a = s ∧ b = s, fun a b hab => by obtain ⟨rfl, rfl⟩ := hab; exact ⟨⟨h, h, Or.inl rfl⟩, Or.inl rfl⟩, rfl, rfl⟩
def pf_rc (cls : Nat → Option Nat) (s t : Nat) : Prop := cls s = cls t
theorem pf_cr (cls : Nat → Option Nat) (a : Nat) : pf_ca op ar ct (pf_rc cls) a a := by
  refine ⟨rfl, fun _ => rfl, ?_⟩
  cases h : ct a with
  | none => exact Or.inl ⟨rfl, rfl⟩
  | some u => exact Or.inr ⟨u, u, rfl, rfl, rfl, rfl⟩
theorem pf_ar (cls : Nat → Option Nat) (s : Nat) : pf_al le op ar ct (pf_rc cls) s s := ⟨rfl, fun _ _ => pf_cr cls _⟩
theorem pf_cs {cls : Nat → Option Nat} {a b : Nat} (h : pf_ca op ar ct (pf_rc cls) a b) : pf_ca op ar ct (pf_rc cls) b a := by
  obtain ⟨h1, h2, h3⟩ := h
  refine ⟨h1.symm, fun z => (h2 (by omega)).symm, ?_⟩
  rcases h3 with ⟨x, y⟩ | ⟨u, v, a1, a2, a3, a4⟩
  · exact Or.inl ⟨y, x⟩
  · exact Or.inr ⟨v, u, a2, a1, a3.symm, Eq.symm a4⟩
theorem pf_as {cls : Nat → Option Nat} {s t : Nat} (h : pf_al le op ar ct (pf_rc cls) s t) : pf_al le op ar ct (pf_rc cls) t s :=
  ⟨h.1.symm, fun o ho => pf_cs (h.2 o (by rw [h.1]; exact ho))⟩
theorem pf_ct {cls : Nat → Option Nat} {a b c : Nat} (h : pf_ca op ar ct (pf_rc cls) a b) (g : pf_ca op ar ct (pf_rc cls) b c) : pf_ca op ar ct (pf_rc cls) a c := by
  obtain ⟨h1, h2, h3⟩ := h
  obtain ⟨g1, g2, g3⟩ := g
  refine ⟨h1.trans g1, fun z => (h2 z).trans (g2 (by omega)), ?_⟩
  rcases h3 with ⟨x, y⟩ | ⟨u, v, a1, a2, a3, a4⟩ <;> rcases g3 with ⟨x', y'⟩ | ⟨u', v', b1, b2, b3, b4⟩
  · exact Or.inl ⟨x, y'⟩
  · rw [y] at b1; cases b1
  · rw [a2] at x'; cases x'
  · rw [a2] at b1
    cases b1
    exact Or.inr ⟨u, v', a1, b2, a3.trans b3, Eq.trans a4 b4⟩
theorem pf_at {cls : Nat → Option Nat} {s t r : Nat} (h : pf_al le op ar ct (pf_rc cls) s t) (g : pf_al le op ar ct (pf_rc cls) t r) : pf_al le op ar ct (pf_rc cls) s r :=
  ⟨h.1.trans g.1, fun o ho => pf_ct (h.2 o ho) (g.2 o (by rw [← h.1]; exact ho))⟩
theorem pf_dv (s o : Nat) (h : o < 16) : (s * 16 + o) / 16 = s ∧ (s * 16 + o) % 16 = o := by omega
theorem pf_sp (c : Nat) : c / 16 * 16 + c % 16 = c := by omega
/-- alike by classes, between live sections, is alike by live classes -/
theorem pf_all {lv : Nat → Prop} (hle : ∀ s, le s ≤ 12) (hc : pf_cl le ct lv) {cls : Nat → Option Nat} {s t : Nat} (hs : lv s) (ht : lv t) (h : pf_al le op ar ct (pf_rc cls) s t) : pf_al le op ar ct (fun x y => lv x ∧ lv y ∧ cls x = cls y) s t := by
  refine ⟨h.1, fun o ho => ?_⟩
  obtain ⟨h1, h2, h3⟩ := h.2 o ho
  refine ⟨h1, h2, ?_⟩
  have l1 := hle s
  have d1 := pf_dv s o (by omega)
  have d2 := pf_dv t o (by omega)
  rcases h3 with h3 | ⟨u, v, a1, a2, a3, a4⟩
  · exact Or.inl h3
  · refine Or.inr ⟨u, v, a1, a2, a3, hc _ u (by rw [d1.1]; exact hs) (by rw [d1.1, d1.2]; exact ho) a1, hc _ v (by rw [d2.1]; exact ht) (by rw [d2.1, d2.2, ← h.1]; exact ho) a2, a4⟩
end
section
variable (le op : Nat → Nat) (ar : Nat → Int32) (ct : Nat → Option Nat) (lv pn : Nat → Prop)
def pf_ok (cls : Nat → Option Nat) : Prop := (∀ s, cls s = none ↔ ¬ lv s) ∧ (∀ s p, cls s = some p → p ≤ s ∧ cls p = some p) ∧ (∀ s t, lv s → cls s = cls t → s = t ∨ (¬ pn s ∧ ¬ pn t)) ∧ (∀ s t, pf_gf le op ar ct lv pn s t → cls s = cls t)
def pf_rf (cls cls' : Nat → Option Nat) : Prop := ∀ s, (¬ lv s → cls' s = none) ∧ (lv s → ∃ q, cls' s = some q ∧ q ≤ s ∧ cls q = cls s ∧ pf_al le op ar ct (pf_rc cls) q s ∧ ∀ j, j < q → ¬ (cls j = cls s ∧ pf_al le op ar ct (pf_rc cls) j s))
def pf_sb (cls : Nat → Option Nat) : Prop := ∀ s t, lv s → (pf_gf le op ar ct lv pn s t ↔ cls s = cls t)
def pf_s0 (cls : Nat → Option Nat) : Prop := ∀ s, (¬ lv s → cls s = none) ∧ (lv s → pn s → cls s = some s) ∧ (lv s → ¬ pn s → ∃ f, cls s = some f ∧ lv f ∧ ¬ pn f ∧ ∀ j, j < f → lv j → pn j)
end
section
variable {le op : Nat → Nat} {ar : Nat → Int32} {ct : Nat → Option Nat} {lv pn : Nat → Prop}
theorem pf_s0ok {cls : Nat → Option Nat} (h : pf_s0 lv pn cls) : pf_ok le op ar ct lv pn cls := by
  have hn : ∀ s, cls s = none ↔ ¬ lv s := by
    intro s
    constructor
    · intro h1 h2
      by_cases hp : pn s
      · rw [(h s).2.1 h2 hp] at h1; cases h1
      · obtain ⟨f, hf, _⟩ := (h s).2.2 h2 hp
        rw [hf] at h1; cases h1
    · exact (h s).1
  have hu : ∀ s t, lv s → lv t → ¬ pn s → ¬ pn t → cls s = cls t := by
    intro s t h1 h2 h3 h4
    obtain ⟨f, f1, f2, f3, f4⟩ := (h s).2.2 h1 h3
    obtain ⟨g, g1, g2, g3, g4⟩ := (h t).2.2 h2 h4
    have : f = g := by
      rcases Nat.lt_trichotomy f g with z | z | z
      · exact absurd (g4 f z f2) f3
      · exact z
      · exact absurd (f4 g z g2) g3
    rw [f1, g1, this]
  refine ⟨hn, ?_, ?_, ?_⟩
  · intro s p hp
    have hs : lv s := Classical.byContradiction (fun z => by rw [(hn s).mpr z] at hp; cases hp)
    by_cases hq : pn s
    · rw [(h s).2.1 hs hq] at hp
      cases hp
      exact ⟨Nat.le_refl _, (h s).2.1 hs hq⟩
    · obtain ⟨f, f1, f2, f3, f4⟩ := (h s).2.2 hs hq
      obtain rfl : f = p := Option.some.inj (f1.symm.trans hp)
      refine ⟨Nat.le_of_not_lt (fun z => hq (f4 s z hs)), ?_⟩
      rw [hu f s f2 hs f3 hq]
      exact f1
  · intro s t hs e
    have ht : lv t := Classical.byContradiction (fun z => by rw [(hn t).mpr z] at e; exact ((hn s).mp e) hs)
    by_cases h1 : pn s <;> by_cases h2 : pn t
    · rw [(h s).2.1 hs h1, (h t).2.1 ht h2] at e
      cases e
      exact Or.inl rfl
    · obtain ⟨f, f1, f2, f3, f4⟩ := (h t).2.2 ht h2
      rw [(h s).2.1 hs h1, f1] at e
      cases e
      exact absurd h1 f3
    · obtain ⟨f, f1, f2, f3, f4⟩ := (h s).2.2 hs h1
      rw [(h t).2.1 ht h2, f1] at e
      cases e
      exact absurd h2 f3
    · exact Or.inr ⟨h1, h2⟩
  · intro s t hg
    obtain ⟨⟨h1, h2, h3⟩, _⟩ := pf_gp s t hg
    rcases h3 with h3 | ⟨h3, h4⟩
    · rw [h3]
    · exact hu s t h1 h2 h3 h4
theorem pf_rfok {cls cls' : Nat → Option Nat} (k : pf_ok le op ar ct lv pn cls) (r : pf_rf le op ar ct lv cls cls') : pf_ok le op ar ct lv pn cls' := by
  obtain ⟨k1, k2, k3, k4⟩ := k
  have hn : ∀ s, cls' s = none ↔ ¬ lv s := by
    intro s
    constructor
    · intro h1 h2
      obtain ⟨q, q1, _⟩ := (r s).2 h2
      rw [q1] at h1; cases h1
    · exact (r s).1
  have hl : ∀ s p, cls' s = some p → lv s := fun s p hp => Classical.byContradiction (fun z => by rw [(hn s).mpr z] at hp; cases hp)
  refine ⟨hn, ?_, ?_, ?_⟩
  · intro s p hp
    have hs := hl s p hp
    obtain ⟨q, q1, q2, q3, q4, q5⟩ := (r s).2 hs
    obtain rfl : q = p := Option.some.inj (q1.symm.trans hp)
    refine ⟨q2, ?_⟩
    have hq : lv q := Classical.byContradiction (fun z => by rw [(k1 q).mpr z] at q3; exact (k1 s).mp q3.symm hs)
    obtain ⟨w, w1, w2, w3, w4, w5⟩ := (r q).2 hq
    have : ¬ w < q := fun z => q5 w z ⟨w3.trans q3, pf_at w4 q4⟩
    rw [w1]
    congr 1
    omega
  · intro s t hs e
    obtain ⟨q, q1, q2, q3, q4, q5⟩ := (r s).2 hs
    have ht : lv t := hl t q (by rw [← e]; exact q1)
    obtain ⟨w, w1, w2, w3, w4, w5⟩ := (r t).2 ht
    rw [q1, w1] at e
    cases e
    exact k3 s t hs (q3.symm.trans w3)
  · intro s t hg
    have kk := k4 s t hg
    obtain ⟨⟨h1, h2, h3⟩, h4⟩ := pf_gp s t hg
    rcases h4 with h4 | h4
    · rw [h4]
    · have ha : pf_al le op ar ct (pf_rc cls) s t := pf_am (fun x y hxy => k4 x y hxy) h4
      obtain ⟨q, q1, q2, q3, q4, q5⟩ := (r s).2 h1
      obtain ⟨w, w1, w2, w3, w4, w5⟩ := (r t).2 h2
      have z1 : ¬ q < w := fun z => w5 q z ⟨q3.trans kk, pf_at q4 ha⟩
      have z2 : ¬ w < q := fun z => q5 w z ⟨w3.trans kk.symm, pf_at w4 (pf_as ha)⟩
      rw [q1, w1]
      congr 1
      omega
theorem pf_rfsb (hle : ∀ s, le s ≤ 12) (hc : pf_cl le ct lv) {cls cls' : Nat → Option Nat} (k : pf_ok le op ar ct lv pn cls) (r : pf_rf le op ar ct lv cls cls') (e : ∀ s, cls' s = cls s) : pf_sb le op ar ct lv pn cls := by
  obtain ⟨k1, k2, k3, k4⟩ := k
  have hl : ∀ s t, lv s → cls s = cls t → lv t := fun s t h1 h2 => Classical.byContradiction (fun z => by rw [(k1 t).mpr z] at h2; exact (k1 s).mp h2 h1)
  intro s t hs
  constructor
  · exact k4 s t
  · intro h
    refine ⟨fun x y => lv x ∧ lv y ∧ cls x = cls y, ?_, hs, hl s t hs h, h⟩
    intro x y hxy
    obtain ⟨h1, h2, h3⟩ := hxy
    refine ⟨⟨h1, h2, k3 x y h1 h3⟩, Or.inr ?_⟩
    obtain ⟨q, q1, q2, q3, q4, q5⟩ := (r x).2 h1
    obtain ⟨w, w1, w2, w3, w4, w5⟩ := (r y).2 h2
    rw [e x, h3, ← e y, w1] at q1
    cases q1
    exact pf_all hle hc h1 h2 (pf_at (pf_as q4) w4)
def pf_ld (cls : Nat → Option Nat) : Nat → Bool := fun s => decide (cls s = some s)
theorem pf_rfct {S : Nat} (hS : ∀ s, lv s → s < S) {cls cls' : Nat → Option Nat} (k : pf_ok le op ar ct lv pn cls) (r : pf_rf le op ar ct lv cls cls') (ch : ∃ s, cls' s ≠ cls s) : cb (pf_ld cls) S < cb (pf_ld cls') S := by
  have k' := pf_rfok k r
  obtain ⟨k1, k2, k3, k4⟩ := k
  obtain ⟨s, hs⟩ := ch
  have hl : lv s := Classical.byContradiction (fun z => hs (by rw [(k1 s).mpr z, (k'.1 s).mpr z]))
  have keep : ∀ i, i < S → pf_ld cls i = true → pf_ld cls' i = true := by
    intro i _ h
    have h := of_decide_eq_true h
    have hi : lv i := Classical.byContradiction (fun z => by rw [(k1 i).mpr z] at h; cases h)
    obtain ⟨q, q1, q2, q3, q4, q5⟩ := (r i).2 hi
    have := (k2 q i (q3.trans h)).1
    have e : q = i := by omega
    subst e
    exact decide_eq_true q1
  obtain ⟨q, q1, q2, q3, q4, q5⟩ := (r s).2 hl
  have hq : cls' q = some q := (k'.2.1 s q q1).2
  have lq : lv q := Classical.byContradiction (fun z => by rw [(k'.1 q).mpr z] at hq; cases hq)
  refine cb_lt (a := q) ?_ (decide_eq_true hq) keep (hS q lq)
  intro z
  have z := of_decide_eq_true z
  exact hs (by rw [q1, ← q3, z])
end
end
section
/-! layout: nx s is the first free address ahead of section s -/
def ly_nx (cls : Nat → Option Nat) (le : Nat → Nat) : Nat → Nat
  | 0 => 1
  | s + 1 => ly_nx cls le s + (if cls s = some s then le s + 1 else 0)
def ly_ps (cls : Nat → Option Nat) (le : Nat → Nat) (s : Nat) : Nat := match cls s with
  | none => 0
  | some p => ly_nx cls le p
def ly_po (cls : Nat → Option Nat) (le : Nat → Nat) (s : Nat) : Option Nat := match cls s with
  | none => none
  | some p => some (ly_nx cls le p)
def ly_ad (cls : Nat → Option Nat) (le : Nat → Nat) : Option Nat → Nat
  | none => 0
  | some x => ly_ps cls le (x / 16) + x % 16
section
variable {cls : Nat → Option Nat} {le : Nat → Nat}
theorem ly_st {s : Nat} (h : cls s = some s) : ly_nx cls le (s + 1) = ly_nx cls le s + (le s + 1) := by
  show ly_nx cls le s + _ = _
  rw [if_pos h]
theorem ly_sn {s : Nat} (h : ¬ cls s = some s) : ly_nx cls le (s + 1) = ly_nx cls le s := by
  show ly_nx cls le s + _ = _
  rw [if_neg h]
  rfl
theorem ly_s1 (s : Nat) : ly_nx cls le s ≤ ly_nx cls le (s + 1) := by
  by_cases h : cls s = some s
  · rw [ly_st h]; omega
  · rw [ly_sn h]; omega
theorem ly_mo {s t : Nat} (h : s ≤ t) : ly_nx cls le s ≤ ly_nx cls le t := by
  induction t with
  | zero =>
    have e : s = 0 := by omega
    rw [e]; exact Nat.le_refl _
  | succ t ih =>
    rcases Nat.lt_or_ge t s with z | z
    · have : s = t + 1 := by omega
      rw [this]; exact Nat.le_refl _
    · exact Nat.le_trans (ih z) (ly_s1 t)
theorem ly_1 (s : Nat) : 1 ≤ ly_nx cls le s := ly_mo (s := 0) (Nat.zero_le s)
theorem ly_bd (hle : ∀ s, le s ≤ 12) : ∀ s, ly_nx cls le s ≤ 1 + 13 * s
  | 0 => Nat.le_refl _
  | s + 1 => by
    have := ly_bd hle s
    have l := hle s
    by_cases h : cls s = some s
    · rw [ly_st h]; omega
    · rw [ly_sn h]; omega
theorem ly_lt {s t : Nat} (h : cls s = some s) (g : s < t) : ly_nx cls le s + le s < ly_nx cls le t := by
  have := ly_mo (cls := cls) (le := le) (s := s + 1) (t := t) g
  rw [ly_st h] at this
  omega
theorem ly_inj {s t o o' : Nat} (hs : cls s = some s) (ht : cls t = some t) (ho : o ≤ le s) (ho' : o' ≤ le t) (e : ly_nx cls le s + o = ly_nx cls le t + o') : s = t ∧ o = o' := by
  rcases Nat.lt_trichotomy s t with z | z | z
  · have := ly_lt (le := le) hs z
    omega
  · subst z
    exact ⟨rfl, by omega⟩
  · have := ly_lt (le := le) ht z
    omega
theorem ly_cov : ∀ {S a : Nat}, 1 ≤ a → a < ly_nx cls le S → ∃ s, s < S ∧ cls s = some s ∧ ly_nx cls le s ≤ a ∧ a ≤ ly_nx cls le s + le s
  | 0, a, h1, h2 => by
    have : ly_nx cls le 0 = 1 := rfl
    omega
  | S + 1, a, h1, h2 => by
    rcases Nat.lt_or_ge a (ly_nx cls le S) with z | z
    · obtain ⟨s, a1, a2⟩ := ly_cov h1 z
      exact ⟨s, by omega, a2⟩
    · by_cases h : cls S = some S
      · rw [ly_st h] at h2
        exact ⟨S, by omega, h, z, by omega⟩
      · rw [ly_sn h] at h2
        omega
theorem ly_pss {s p : Nat} (h : cls s = some p) : ly_ps cls le s = ly_nx cls le p := by unfold ly_ps; rw [h]
theorem ly_pos {s p : Nat} (h : cls s = some p) : ly_po cls le s = some (ly_nx cls le p) := by unfold ly_po; rw [h]
theorem ly_pon {s : Nat} (h : cls s = none) : ly_po cls le s = none := by unfold ly_po; rw [h]
end
/-- what a link leaves behind, of classes alone -/
def lk_ok (S : Nat) (le op : Nat → Nat) (ar : Nat → Int32) (ct : Nat → Option Nat) (cls : Nat → Option Nat) : Prop :=
  (∀ s p, cls s = some p → s < S ∧ p ≤ s ∧ cls p = some p ∧ pf_al le op ar ct (pf_rc cls) p s) ∧
  (∀ c x, cls (c / 16) ≠ none → c % 16 < le (c / 16) → ct c = some x → cls (x / 16) ≠ none) ∧
  (∀ c x s, cls (c / 16) ≠ none → c % 16 < le (c / 16) → (op c = 11 ∨ op c = 13) → ct c = some x → cls s = cls (x / 16) → s = x / 16)
theorem lk_of {S : Nat} {le op : Nat → Nat} {ar : Nat → Int32} {ct cls : Nat → Option Nat} {lv : Nat → Prop} (hS : ∀ s, lv s → s < S) (hc : pf_cl le ct lv) (k : pf_ok le op ar ct lv (pf_pn le op ct lv) cls) (b : pf_sb le op ar ct lv (pf_pn le op ct lv) cls) : lk_ok S le op ar ct cls := by
  obtain ⟨k1, k2, k3, k4⟩ := k
  have hl : ∀ s, cls s ≠ none → lv s := fun s h => Classical.byContradiction (fun z => h ((k1 s).mpr z))
  have hl' : ∀ s, lv s → cls s ≠ none := fun s h z => (k1 s).mp z h
  refine ⟨?_, ?_, ?_⟩
  · intro s p h
    have ls : lv s := hl s (by rw [h]; simp)
    obtain ⟨p1, p2⟩ := k2 s p h
    have lp : lv p := hl p (by rw [p2]; simp)
    refine ⟨hS s ls, p1, p2, ?_⟩
    have g := (b p s lp).mpr (p2.trans h.symm)
    rcases (pf_gp p s g).2 with z | z
    · rw [z]; exact pf_ar cls s
    · exact pf_am (fun x y hxy => k4 x y hxy) z
  · intro c x h1 h2 h3
    exact hl' _ (hc c x (hl _ h1) h2 h3)
  · intro c x s h1 h2 h3 h4 h5
    have lx : lv (x / 16) := hc c x (hl _ h1) h2 h4
    rcases k3 (x / 16) s lx h5.symm with z | ⟨z, _⟩
    · exact z.symm
    · exact absurd ⟨c, x, hl _ h1, h2, h3, h4, rfl⟩ z
theorem lk_ct {S : Nat} {le op : Nat → Nat} {ar : Nat → Int32} {ct cls : Nat → Option Nat} (k : lk_ok S le op ar ct cls) {a b : Nat} (h : pf_ca op ar ct (pf_rc cls) a b) : ly_ad cls le (ct a) = ly_ad cls le (ct b) := by
  rcases h.2.2 with ⟨x, y⟩ | ⟨u, v, a1, a2, a3, a4⟩
  · rw [x, y]
  · rw [a1, a2]
    show ly_ps cls le (u / 16) + u % 16 = ly_ps cls le (v / 16) + v % 16
    have e : cls (u / 16) = cls (v / 16) := a4
    unfold ly_ps
    rw [e, a3]
end
section
/-! X: small helpers, loading, duplicates, resolution -/
theorem ex_s {i : Nat} {P : Nat → Prop} : (∃ m, m < i + 1 ∧ P m) ↔ (∃ m, m < i ∧ P m) ∨ P i := by
  constructor
  · rintro ⟨m, h1, h2⟩
    rcases Nat.lt_or_ge m i with z | z
    · exact Or.inl ⟨m, z, h2⟩
    · have : m = i := by omega
      exact Or.inr (this ▸ h2)
  · rintro (⟨m, h1, h2⟩ | h)
    · exact ⟨m, by omega, h2⟩
    · exact ⟨i, by omega, h⟩
theorem ex_n {i : Nat} {P : Nat → Prop} (h : ¬ P i) : (∃ m, m < i + 1 ∧ P m) ↔ (∃ m, m < i ∧ P m) := by
  rw [ex_s]
  exact ⟨fun z => z.elim id (fun q => absurd q h), Or.inl⟩
theorem all_s {i : Nat} {P : Nat → Prop} (h : ∀ m, m < i → P m) (hi : P i) : ∀ m, m < i + 1 → P m := by
  intro m hm
  rcases Nat.lt_or_ge m i with z | z
  · exact h m z
  · have : m = i := by omega
    exact this ▸ hi
theorem bt_1 (k : Nat) : bt 1 k = decide (k = 0) := by
  rcases Nat.lt_or_ge k 32 with h | h
  · exact (by decide +kernel : ∀ k, k < 32 → bt 1 k = decide (k = 0)) k h
  · rw [b_big h, decide_eq_false (by omega)]
theorem bt_one {n j : Nat} (hn : n < 32) (hj : j < 32) : bt ((1 : Int32) <<< (nI n &&& 31)) j = decide (j = n) := by
  rw [b_shl n hn 1 hj, bt_1]
  by_cases h : j = n
  · subst h; simp
  · rw [decide_eq_false h]
    rcases Nat.lt_or_ge j n with z | z
    · rw [decide_eq_false (by omega : ¬ n ≤ j)]; rfl
    · rw [decide_eq_false (by omega : ¬ j - n = 0), Bool.and_false]
theorem bt_and0 (x y : Int32) : x &&& y = 0 ↔ ∀ j, j < 32 → bt x j = true → bt y j = false := by
  constructor
  · intro h j hj hx
    have : bt (x &&& y) j = false := by rw [h]; exact b_0 j
    rw [b_and, hx, Bool.true_and] at this
    exact this
  · intro h
    apply b_ext
    intro j hj
    rw [b_and, b_0]
    cases hx : bt x j with
    | false => rfl
    | true => rw [h j hj hx]; rfl
theorem bt_bit (x : Int32) {n : Nat} (hn : n < 32) : x &&& ((1 : Int32) <<< (nI n &&& 31)) = 0 ↔ bt x n = false := by
  rw [bt_and0]
  constructor
  · intro h
    cases hx : bt x n with
    | false => rfl
    | true =>
      have := h n hn hx
      rw [bt_one hn hn, decide_eq_true rfl] at this
      cases this
  · intro h j hj hx
    rw [bt_one hn hj]
    apply decide_eq_false
    intro e
    rw [e, h] at hx
    cases hx
def pd_ct (op : Nat → Nat) (ar : Nat → Int32) (tg : Nat → Option Nat) (c : Nat) : Option Nat := if op c < 7 then none else tg (ar c).toNatClampNeg
theorem pd_ctp {op : Nat → Nat} {ar : Nat → Int32} {tg : Nat → Option Nat} {c : Nat} (h : op c < 7) : pd_ct op ar tg c = none := if_pos h
theorem pd_ctr {op : Nat → Nat} {ar : Nat → Int32} {tg : Nat → Option Nat} {c n : Nat} (h : 7 ≤ op c) (ha : ar c = nI n) (hn : n < 2 ^ 31) : pd_ct op ar tg c = tg n := by
  unfold pd_ct
  rw [if_neg (by omega), ha, nI_clamp hn]
section
variable {mm ms mc nm M S : Nat} {lk es lc iz rn bi ac pt pc de oc : Int32} {me wk : Nat → Bool} {ow le op : Nat → Nat} {dn sn wn df ar ld rs lq il pn lo rf po st ou va : Nat → Int32} {wd : Nat → Int64}
theorem xx_nameT {post : Int32 → Prop} {n : Nat} (hn : n < nm) (hm : nm ≤ 16) (p : post 1) : wpX_isName post (nI mm, nI ms, nI mc, nI nm, nI M, nI S, lk, es, lc, iz, rn, bi, ac, pt, pc, de, oc, bA me, dn, sn, wn, df, nA ow, nA le, nA op, ar, bA wk, ld, rs, lq, il, pn, lo, rf, po, wd, st, ou, va) (nI n) :=
  br_f (nI_pos (by omega)) (br_f (nI_ge hn (by omega)) p)
theorem xx_nameF {post : Int32 → Prop} {x : Int32} (h : x < 0 ∨ nI nm ≤ x) (p : post 0) : wpX_isName post (nI mm, nI ms, nI mc, nI nm, nI M, nI S, lk, es, lc, iz, rn, bi, ac, pt, pc, de, oc, bA me, dn, sn, wn, df, nA ow, nA le, nA op, ar, bA wk, ld, rs, lq, il, pn, lo, rf, po, wd, st, ou, va) x :=
  br_c (fun _ => p) (fun h0 => br_t (h.resolve_left h0) p)
theorem xx_target {post : Int32 → Prop} {c : Nat} {tg : Nat → Option Nat} (hc : c < 192) (hm : nm ≤ 16) (ho : op c ≤ 13) (h7 : 7 ≤ op c → ∃ n, n < nm ∧ ar c = nI n) (hr : ∀ n, n < nm → rs n = oI (tg n)) (p : post (oI (pd_ct op ar tg c))) : wpX_target post (nI mm, nI ms, nI mc, nI nm, nI M, nI S, lk, es, lc, iz, rn, bi, ac, pt, pc, de, oc, bA me, dn, sn, wn, df, nA ow, nA le, nA op, ar, bA wk, ld, rs, lq, il, pn, lo, rf, po, wd, st, ou, va) (nI c) := by
  have hin : vp_in (nI c) 192 := vp_in_nI hc (by omega)
  have e1 : nA op (nI c).toNatClampNeg = nI (op c) := by rw [nI_clamp (by omega)]; rfl
  by_cases h : op c < 7
  · rw [pd_ctp h] at p
    exact ⟨hin, br_t (by rw [e1, li_lt7 (by omega)]; exact h) p⟩
  · obtain ⟨n, hn, ha⟩ := h7 (by omega)
    rw [pd_ctr (by omega) ha (by omega), ← hr n hn] at p
    have e2 : ar (nI c).toNatClampNeg = nI n := by rw [nI_clamp (by omega), ha]
    refine ⟨hin, br_f (by rw [e1, li_lt7 (by omega)]; exact h) ⟨hin, ?_⟩⟩
    rw [e2]
    refine ⟨vp_in_nI (by omega) (by omega), ?_⟩
    rw [nI_clamp (by omega)]
    exact p
theorem xx_need1 {post : Int32 → Prop} {wq dm : Nat → Nat → Bool} {L : Nat → Bool} {e : Nat} (hM : M ≤ 8) (hw : ∀ m j, j < 32 → bt (wn m) j = wq m j) (hd : ∀ m j, j < 32 → bt (dn m) j = dm m j) (hl : ∀ m, m < M → ld m = bI (L m)) (hp : ∀ y, (∀ j, j < 32 → (bt y j = true ↔ pl_nd M dm wq e L j)) → post y) : ∀ d i x2 x3, i + d = M → (∀ j, j < 32 → (bt x2 j = true ↔ (j = e ∨ ∃ m, m < i ∧ L m = true ∧ wq m j = true))) → (∀ j, j < 32 → (bt x3 j = true ↔ ∃ m, m < i ∧ L m = true ∧ dm m j = true)) → wX_neededNames_9 post (nI mm) (nI ms) (nI mc) (nI nm) (nI M) (nI S) lk es lc iz rn bi ac pt pc de oc (bA me) dn sn wn df (nA ow) (nA le) (nA op) ar (bA wk) ld rs lq il pn lo rf po wd st ou va (d + 1) x2 x3 (nI i) := by
  intro d
  induction d with
  | zero =>
    intro i x2 x3 hi h2 h3
    obtain rfl : i = M := by omega
    refine br_t (nI_le (Nat.le_refl _) (by omega)) (hp _ ?_)
    intro j hj
    rw [b_and, b_xor, b_m1 j hj, Bool.xor_true, Bool.and_eq_true, h2 j hj, Bool.not_eq_true']
    refine and_congr Iff.rfl ?_
    constructor
    · intro h m hm hL
      cases hx : dm m j with
      | false => rfl
      | true =>
        have := (h3 j hj).mpr ⟨m, hm, hL, hx⟩
        rw [h] at this
        cases this
    · intro h
      cases hx : bt x3 j with
      | false => rfl
      | true =>
        obtain ⟨m, hm, hL, hx⟩ := (h3 j hj).mp hx
        rw [h m hm hL] at hx
        cases hx
  | succ d ih =>
    intro i x2 x3 hi h2 h3
    have h1 : ¬ nI M ≤ nI i := nI_ge (by omega) (by omega)
    have hin : vp_in (nI i) 8 := vp_in_nI (by omega) (by omega)
    have e0 := nI_clamp (n := i) (by omega)
    cases hL : L i with
    | false =>
      have h4 : ld (nI i).toNatClampNeg = 0 := by rw [e0, hl i (by omega), hL]; rfl
      refine br_f h1 ⟨hin, br_t h4 (nm_r (nI_1 i) ?_)⟩
      refine ih (i + 1) x2 x3 (by omega) ?_ ?_
      · intro j hj
        rw [h2 j hj, ex_n (by rw [hL]; simp)]
      · intro j hj
        rw [h3 j hj, ex_n (by rw [hL]; simp)]
    | true =>
      have h4 : ¬ ld (nI i).toNatClampNeg = 0 := by rw [e0, hl i (by omega), hL]; decide
      refine br_f h1 ⟨hin, br_f h4 ⟨hin, nm_e ⟨hin, nm_e (nm_r (nI_1 i) ?_)⟩⟩⟩
      refine ih (i + 1) _ _ (by omega) ?_ ?_
      · intro j hj
        rw [e0, b_or, Bool.or_eq_true, h2 j hj, hw i j hj, ex_s, hL]
        simp only [true_and, or_assoc]
      · intro j hj
        rw [e0, b_or, Bool.or_eq_true, h3 j hj, hd i j hj, ex_s, hL]
        simp only [true_and]
theorem xx_need {post : Int32 → Prop} {wq dm : Nat → Nat → Bool} {L : Nat → Bool} {e : Nat} (hM : M ≤ 8) (he : e < 32) (hw : ∀ m j, j < 32 → bt (wn m) j = wq m j) (hd : ∀ m j, j < 32 → bt (dn m) j = dm m j) (hl : ∀ m, m < M → ld m = bI (L m)) (hp : ∀ y, (∀ j, j < 32 → (bt y j = true ↔ pl_nd M dm wq e L j)) → post y) : wpX_neededNames post (nI mm, nI ms, nI mc, nI nm, nI M, nI S, lk, es, lc, iz, rn, bi, ac, pt, pc, de, oc, bA me, dn, sn, wn, df, nA ow, nA le, nA op, ar, bA wk, ld, rs, lq, il, pn, lo, rf, po, wd, st, ou, va) (nI e) := by
  refine nm_e ⟨M + 1, xx_need1 (dm := dm) (wq := wq) (L := L) (e := e) hM hw hd hl hp M 0 _ _ (by omega) ?_ ?_⟩
  · intro j hj
    rw [bt_one he hj, decide_eq_true_iff]
    constructor
    · exact Or.inl
    · rintro (h | ⟨m, hm, _⟩)
      · exact h
      · omega
  · intro j hj
    rw [b_0]
    constructor
    · intro h; cases h
    · rintro ⟨m, hm, _⟩
      omega
theorem xx_prov1 {post : Int32 → Prop} {wq dm : Nat → Nat → Bool} {L : Nat → Bool} {e : Nat} {x1 : Int32} (hM : M ≤ 8) (hd : ∀ m j, j < 32 → bt (dn m) j = dm m j) (hdb : ∀ m j, dm m j = true → j < 32) (hl : ∀ m, m < M → ld m = bI (L m)) (hx : ∀ j, j < 32 → (bt x1 j = true ↔ pl_nd M dm wq e L j)) (hp : ∀ m, pl_pv M dm wq e L m → (∀ j, j < m → ¬ pl_pv M dm wq e L j) → post (nI m)) (hn : (∀ m, ¬ pl_pv M dm wq e L m) → post (-1)) : ∀ d i, i + d = M → (∀ j, j < i → ¬ pl_pv M dm wq e L j) → wX_firstProvider_2 post x1 (nI mm) (nI ms) (nI mc) (nI nm) (nI M) (nI S) lk es lc iz rn bi ac pt pc de oc (bA me) dn sn wn df (nA ow) (nA le) (nA op) ar (bA wk) ld rs lq il pn lo rf po wd st ou va (d + 1) (nI i) := by
  intro d
  induction d with
  | zero =>
    intro i hi h2
    obtain rfl : i = M := by omega
    refine br_t (nI_le (Nat.le_refl _) (by omega)) (hn ?_)
    intro m hm
    exact h2 m hm.1 hm
  | succ d ih =>
    intro i hi h2
    have h1 : ¬ nI M ≤ nI i := nI_ge (by omega) (by omega)
    have hin : vp_in (nI i) 8 := vp_in_nI (by omega) (by omega)
    have e0 := nI_clamp (n := i) (by omega)
    cases hL : L i with
    | true =>
      have h4 : ¬ ld (nI i).toNatClampNeg = 0 := by rw [e0, hl i (by omega), hL]; decide
      refine br_f h1 ⟨hin, br_f h4 (nm_r (nI_1 i) ?_)⟩
      refine ih (i + 1) (by omega) (all_s h2 ?_)
      intro z
      rw [z.2.1] at hL
      cases hL
    | false =>
      have h4 : ld (nI i).toNatClampNeg = 0 := by rw [e0, hl i (by omega), hL]; rfl
      by_cases hz : dn (nI i).toNatClampNeg &&& x1 = 0
      · refine br_f h1 ⟨hin, br_t h4 ⟨hin, br_t hz (nm_r (nI_1 i) ?_)⟩⟩
        refine ih (i + 1) (by omega) (all_s h2 ?_)
        rintro ⟨_, _, n, n1, n2⟩
        rw [e0, bt_and0] at hz
        have hn := hdb i n n1
        have := hz n hn (by rw [hd i n hn]; exact n1)
        rw [(hx n hn).mpr n2] at this
        cases this
      · refine br_f h1 ⟨hin, br_t h4 ⟨hin, br_f hz (hp i ?_ h2)⟩⟩
        refine ⟨by omega, hL, ?_⟩
        rw [e0, bt_and0] at hz
        apply Classical.byContradiction
        intro hc
        apply hz
        intro j hj hj1
        cases hb : bt x1 j with
        | false => rfl
        | true => exact absurd ⟨j, by rw [← hd i j hj]; exact hj1, (hx j hj).mp hb⟩ hc
theorem xx_prov {post : Int32 → Prop} {wq dm : Nat → Nat → Bool} {L : Nat → Bool} {e : Nat} {x1 : Int32} (hM : M ≤ 8) (hd : ∀ m j, j < 32 → bt (dn m) j = dm m j) (hdb : ∀ m j, dm m j = true → j < 32) (hl : ∀ m, m < M → ld m = bI (L m)) (hx : ∀ j, j < 32 → (bt x1 j = true ↔ pl_nd M dm wq e L j)) (hp : ∀ m, pl_pv M dm wq e L m → (∀ j, j < m → ¬ pl_pv M dm wq e L j) → post (nI m)) (hn : (∀ m, ¬ pl_pv M dm wq e L m) → post (-1)) : wpX_firstProvider post (nI mm, nI ms, nI mc, nI nm, nI M, nI S, lk, es, lc, iz, rn, bi, ac, pt, pc, de, oc, bA me, dn, sn, wn, df, nA ow, nA le, nA op, ar, bA wk, ld, rs, lq, il, pn, lo, rf, po, wd, st, ou, va) x1 :=
  ⟨M + 1, xx_prov1 (dm := dm) (wq := wq) (L := L) (e := e) hM hd hdb hl hx hp hn M 0 (by omega) (fun j hj => absurd hj (Nat.not_lt_zero j))⟩
theorem xx_load2 {post : SX → Prop} {wq dm : Nat → Nat → Bool} {e : Nat} {L0 : Nat → Bool} (hM : M ≤ 8) (he : e < 32) (hw : ∀ m j, j < 32 → bt (wn m) j = wq m j) (hd : ∀ m j, j < 32 → bt (dn m) j = dm m j) (hdb : ∀ m j, dm m j = true → j < 32) (hp : ∀ ld', (∀ m, m < M → ld' m = bI (pl_sq M dm wq e L0 8 m)) → post (nI mm, nI ms, nI mc, nI nm, nI M, nI S, lk, es, lc, iz, rn, bi, ac, pt, pc, de, oc, bA me, dn, sn, wn, df, nA ow, nA le, nA op, ar, bA wk, ld', rs, lq, il, pn, lo, rf, po, wd, st, ou, va)) : ∀ d i ld, i + d = M → (∀ m, m < M → ld m = bI (pl_sq M dm wq e L0 i m)) → wX_loadModules_38 post (nI e) (nI mm) (nI ms) (nI mc) (nI nm) (nI M) (nI S) lk es lc iz rn bi ac pt pc de oc (d + 1) (nI i) (bA me) dn sn wn df (nA ow) (nA le) (nA op) ar (bA wk) ld rs lq il pn lo rf po wd st ou va := by
  intro d
  induction d with
  | zero =>
    intro i ld hi hl
    obtain rfl : i = M := by omega
    refine br_t (nI_le (Nat.le_refl _) (by omega)) (hp ld ?_)
    intro m hm
    rw [pl_8 hM]
    exact hl m hm
  | succ d ih =>
    intro i ld hi hl
    have h1 : ¬ nI M ≤ nI i := nI_ge (by omega) (by omega)
    refine br_f h1 (xx_need (dm := dm) (wq := wq) (L := pl_sq M dm wq e L0 i) (e := e) hM he hw hd hl ?_)
    intro y hy
    refine xx_prov (dm := dm) (wq := wq) (L := pl_sq M dm wq e L0 i) (e := e) hM hd hdb hl hy ?_ ?_
    · intro m hm hj
      have hm8 : m < 8 := Nat.lt_of_lt_of_le hm.1 hM
      refine br_t (nI_pos' (by omega)) ⟨vp_in_nI hm8 (by omega), nm_e (nm_r (nI_1 i) ?_)⟩
      refine ih (i + 1) _ (by omega) ?_
      intro m' hm'
      rw [pl_s1 hm hj, nI_clamp (by omega)]
      by_cases e : m' = m
      · subst e
        rw [pk_us, ub_s]
        rfl
      · rw [pk_un e, ub_n e]
        exact hl m' hm'
    · intro hno
      refine br_f (by decide) (hp ld ?_)
      intro m hm
      rw [pl_8k (by omega) hno]
      exact hl m hm
theorem xx_load {post : SX → Prop} {wq dm : Nat → Nat → Bool} {e : Nat} (hM : M ≤ 8) (he : e < 32) (hw : ∀ m j, j < 32 → bt (wn m) j = wq m j) (hd : ∀ m j, j < 32 → bt (dn m) j = dm m j) (hdb : ∀ m j, dm m j = true → j < 32) (hp : ∀ ld', (∀ m, m < M → ld' m = bI (pl_sq M dm wq e (fun m => !me m) 8 m)) → post (nI mm, nI ms, nI mc, nI nm, nI M, nI S, lk, es, lc, iz, rn, bi, ac, pt, pc, de, oc, bA me, dn, sn, wn, df, nA ow, nA le, nA op, ar, bA wk, ld', rs, lq, il, pn, lo, rf, po, wd, st, ou, va)) : wpX_loadModules post (nI mm, nI ms, nI mc, nI nm, nI M, nI S, lk, es, lc, iz, rn, bi, ac, pt, pc, de, oc, bA me, dn, sn, wn, df, nA ow, nA le, nA op, ar, bA wk, ld, rs, lq, il, pn, lo, rf, po, wd, st, ou, va) (nI e) := by
  have key : ∀ d i ld, i + d = M → (∀ m, m < i → ld m = bI (!me m)) → wX_loadModules_2 post (nI e) (nI mm) (nI ms) (nI mc) (nI nm) (nI M) (nI S) lk es lc iz rn bi ac pt pc de oc (d + 1) (nI i) (bA me) dn sn wn df (nA ow) (nA le) (nA op) ar (bA wk) ld rs lq il pn lo rf po wd st ou va := by
    intro d
    induction d with
    | zero =>
      intro i ld hi hl
      obtain rfl : i = M := by omega
      refine br_t (nI_le (Nat.le_refl _) (by omega)) ⟨i + 1, ?_⟩
      exact xx_load2 (dm := dm) (wq := wq) (L0 := fun m => !me m) hM he hw hd hdb hp i 0 ld (by omega) hl
    | succ d ih =>
      intro i ld hi hl
      have h1 : ¬ nI M ≤ nI i := nI_ge (by omega) (by omega)
      have hin : vp_in (nI i) 8 := vp_in_nI (by omega) (by omega)
      have e0 := nI_clamp (n := i) (by omega)
      cases hm : me i with
      | false =>
        have h4 : bA me (nI i).toNatClampNeg = 0 := by rw [e0, ba_ap, hm]; rfl
        refine br_f h1 ⟨hin, br_t h4 ⟨hin, nm_e (nm_r (nI_1 i) ?_)⟩⟩
        refine ih (i + 1) _ (by omega) ?_
        rw [e0]
        intro m hm'
        by_cases e : m = i
        · subst e
          rw [pk_us, hm]
          rfl
        · rw [pk_un e]
          exact hl m (by omega)
      | true =>
        have h4 : ¬ bA me (nI i).toNatClampNeg = 0 := by rw [e0, ba_ap, hm]; decide
        refine br_f h1 ⟨hin, br_f h4 ⟨hin, nm_e (nm_r (nI_1 i) ?_)⟩⟩
        refine ih (i + 1) _ (by omega) ?_
        rw [e0]
        intro m hm'
        by_cases e : m = i
        · subst e
          rw [pk_us, hm]
          rfl
        · rw [pk_un e]
          exact hl m (by omega)
  exact ⟨M + 1, key M 0 ld (by omega) (fun m hm => absurd hm (Nat.not_lt_zero m))⟩
theorem xx_dup1 {post : Int32 → Prop} {ds : Nat → Nat → Bool} {L : Nat → Bool} (hM : M ≤ 8) (hs : ∀ m j, j < 32 → bt (sn m) j = ds m j) (hdb : ∀ m j, ds m j = true → j < 32) (hl : ∀ m, m < M → ld m = bI (L m)) (p1 : pl_dup M ds L → post 1) (p0 : ¬ pl_dup M ds L → post 0) : ∀ d i x1, i + d = M → (∀ j, j < 32 → (bt x1 j = true ↔ ∃ m, m < i ∧ L m = true ∧ ds m j = true)) → ¬ pl_dup i ds L → wX_hasDuplicate_4 post (nI mm) (nI ms) (nI mc) (nI nm) (nI M) (nI S) lk es lc iz rn bi ac pt pc de oc (bA me) dn sn wn df (nA ow) (nA le) (nA op) ar (bA wk) ld rs lq il pn lo rf po wd st ou va (d + 1) x1 (nI i) := by
  intro d
  induction d with
  | zero =>
    intro i x1 hi hx hn
    obtain rfl : i = M := by omega
    exact br_t (nI_le (Nat.le_refl _) (by omega)) (p0 hn)
  | succ d ih =>
    intro i x1 hi hx hn
    have h1 : ¬ nI M ≤ nI i := nI_ge (by omega) (by omega)
    have hin : vp_in (nI i) 8 := vp_in_nI (by omega) (by omega)
    have e0 := nI_clamp (n := i) (by omega)
    cases hL : L i with
    | false =>
      have h4 : ld (nI i).toNatClampNeg = 0 := by rw [e0, hl i (by omega), hL]; rfl
      refine br_f h1 ⟨hin, br_t h4 (nm_r (nI_1 i) ?_)⟩
      refine ih (i + 1) x1 (by omega) ?_ ?_
      · intro j hj
        rw [hx j hj, ex_n (by rw [hL]; simp)]
      · rintro ⟨m, m', n, a1, a2, a3, a4, a5, a6⟩
        rcases Nat.lt_or_ge m' i with z | z
        · exact hn ⟨m, m', n, a1, z, a3, a4, a5, a6⟩
        · have : m' = i := by omega
          rw [this, hL] at a4
          cases a4
    | true =>
      have h4 : ¬ ld (nI i).toNatClampNeg = 0 := by rw [e0, hl i (by omega), hL]; decide
      by_cases hz : x1 &&& sn (nI i).toNatClampNeg = 0
      · refine br_f h1 ⟨hin, br_f h4 ⟨hin, br_t hz ⟨hin, nm_e (nm_r (nI_1 i) ?_)⟩⟩⟩
        rw [e0, bt_and0] at hz
        refine ih (i + 1) _ (by omega) ?_ ?_
        · intro j hj
          rw [e0, b_or, Bool.or_eq_true, hx j hj, hs i j hj, ex_s, hL]
          simp only [true_and]
        · rintro ⟨m, m', n, a1, a2, a3, a4, a5, a6⟩
          rcases Nat.lt_or_ge m' i with z | z
          · exact hn ⟨m, m', n, a1, z, a3, a4, a5, a6⟩
          · have e : m' = i := by omega
            subst e
            have hj := hdb m n a5
            have := hz n hj ((hx n hj).mpr ⟨m, a1, a3, a5⟩)
            rw [hs m' n hj, a6] at this
            cases this
      · refine br_f h1 ⟨hin, br_f h4 ⟨hin, br_f hz (p1 ?_)⟩⟩
        rw [e0, bt_and0] at hz
        apply Classical.byContradiction
        intro hc
        apply hz
        intro j hj hj1
        obtain ⟨m, m1, m2, m3⟩ := (hx j hj).mp hj1
        rw [hs i j hj]
        cases hb : ds i j with
        | false => rfl
        | true => exact absurd ⟨m, i, j, m1, by omega, m2, hL, m3, hb⟩ hc
theorem xx_dup {post : Int32 → Prop} {ds : Nat → Nat → Bool} {L : Nat → Bool} (hM : M ≤ 8) (hs : ∀ m j, j < 32 → bt (sn m) j = ds m j) (hdb : ∀ m j, ds m j = true → j < 32) (hl : ∀ m, m < M → ld m = bI (L m)) (p1 : pl_dup M ds L → post 1) (p0 : ¬ pl_dup M ds L → post 0) : wpX_hasDuplicate post (nI mm, nI ms, nI mc, nI nm, nI M, nI S, lk, es, lc, iz, rn, bi, ac, pt, pc, de, oc, bA me, dn, sn, wn, df, nA ow, nA le, nA op, ar, bA wk, ld, rs, lq, il, pn, lo, rf, po, wd, st, ou, va) := by
  refine ⟨M + 1, xx_dup1 (ds := ds) (L := L) hM hs hdb hl p1 p0 M 0 _ (by omega) ?_ ?_⟩
  · intro j hj
    rw [b_0]
    constructor
    · intro h; cases h
    · rintro ⟨m, hm, _⟩
      omega
  · rintro ⟨m, m', n, a1, a2, _⟩
    omega
theorem xx_find1 {post : Int32 → Prop} {dm ds : Nat → Nat → Bool} {dp : Nat → Nat → Nat} {L : Nat → Bool} {n : Nat} (hM : M ≤ 8) (hn : n < 16) (hs : ∀ m j, j < 32 → bt (sn m) j = ds m j) (hd : ∀ m j, j < 32 → bt (dn m) j = dm m j) (hds : ∀ m j, ds m j = true → dm m j = true) (hdf : ∀ m j, dm m j = true → df (m * 16 + j) = nI (dp m j) ∧ dp m j < 192) (hl : ∀ m, m < M → ld m = bI (L m)) (hp : ∀ o, pl_rs M dm ds dp L n o → post (oI o)) : ∀ d i w, i + d = M → (∀ m, m < i → L m = true → ds m n = false) → ((w = none ∧ ∀ m, m < i → L m = true → dm m n = false) ∨ ∃ m, m < i ∧ L m = true ∧ dm m n = true ∧ (∀ j, j < m → L j = true → dm j n = false) ∧ w = some (dp m n)) → wX_findDefinition_9 post (nI n) ((1 : Int32) <<< (nI n &&& 31)) (nI mm) (nI ms) (nI mc) (nI nm) (nI M) (nI S) lk es lc iz rn bi ac pt pc de oc (bA me) dn sn wn df (nA ow) (nA le) (nA op) ar (bA wk) ld rs lq il pn lo rf po wd st ou va (d + 1) (oI w) (nI i) := by
  intro d
  induction d with
  | zero =>
    intro i w hi h1 h2
    obtain rfl : i = M := by omega
    refine br_t (nI_le (Nat.le_refl _) (by omega)) (hp w ?_)
    rcases h2 with ⟨a, b⟩ | ⟨m, a, b, c, d, e⟩
    · exact Or.inr (Or.inr ⟨b, a⟩)
    · exact Or.inr (Or.inl ⟨h1, m, a, b, c, d, e⟩)
  | succ d ih =>
    intro i w hi g1 g2
    have h1 : ¬ nI M ≤ nI i := nI_ge (by omega) (by omega)
    have hin : vp_in (nI i) 8 := vp_in_nI (by omega) (by omega)
    have e0 := nI_clamp (n := i) (by omega)
    cases hL : L i with
    | false =>
      have h4 : ld (nI i).toNatClampNeg = 0 := by rw [e0, hl i (by omega), hL]; rfl
      refine br_f h1 ⟨hin, br_t h4 (nm_r (nI_1 i) ?_)⟩
      refine ih (i + 1) w (by omega) (all_s g1 (by rw [hL]; intro z; cases z)) ?_
      rcases g2 with ⟨a, b⟩ | ⟨m, a, b⟩
      · exact Or.inl ⟨a, all_s b (by rw [hL]; intro z; cases z)⟩
      · exact Or.inr ⟨m, by omega, b⟩
    | true =>
      have h4 : ¬ ld (nI i).toNatClampNeg = 0 := by rw [e0, hl i (by omega), hL]; decide
      by_cases hz : dn (nI i).toNatClampNeg &&& ((1 : Int32) <<< (nI n &&& 31)) = 0
      · refine br_f h1 ⟨hin, br_f h4 ⟨hin, br_t hz (nm_r (nI_1 i) ?_)⟩⟩
        rw [e0, bt_bit _ (by omega), hd i n (by omega)] at hz
        refine ih (i + 1) w (by omega) (all_s g1 ?_) ?_
        · intro _
          cases hb : ds i n with
          | false => rfl
          | true => rw [hds i n hb] at hz; cases hz
        · rcases g2 with ⟨a, b⟩ | ⟨m, a, b⟩
          · exact Or.inl ⟨a, all_s b (fun _ => hz)⟩
          · exact Or.inr ⟨m, by omega, b⟩
      · have hz' : dm i n = true := by
          rw [e0, bt_bit _ (by omega), hd i n (by omega)] at hz
          exact bo_t hz
        obtain ⟨f1, f2⟩ := hdf i n hz'
        have e1 : nI i * 16 + nI n = nI (i * 16 + n) := by rw [li_m16, nI_add]
        have hi2 : vp_in (nI i * 16 + nI n) 128 := by rw [e1]; exact vp_in_nI (by omega) (by omega)
        have e2 : df (nI i * 16 + nI n).toNatClampNeg = nI (dp i n) := by rw [e1, nI_clamp (by omega), f1]
        by_cases hy : sn (nI i).toNatClampNeg &&& ((1 : Int32) <<< (nI n &&& 31)) = 0
        · have hy' : ds i n = false := by
            rw [e0, bt_bit _ (by omega), hs i n (by omega)] at hy
            exact hy
          cases hw : w with
          | none =>
            refine br_f h1 ⟨hin, br_f h4 ⟨hin, br_f hz ⟨hi2, nm_r e2 ⟨hin, br_t hy (br_f (by decide) (nm_r (nI_1 i) ?_))⟩⟩⟩⟩
            refine ih (i + 1) (some (dp i n)) (by omega) (all_s g1 (fun _ => hy')) (Or.inr ⟨i, by omega, hL, hz', ?_, rfl⟩)
            rcases g2 with ⟨a, b⟩ | ⟨m, a, b, c, d, e⟩
            · exact b
            · rw [hw] at e; cases e
          | some t =>
            have g2' := g2
            rcases g2 with ⟨a, b⟩ | ⟨m, a, b, c, d, e⟩
            · rw [hw] at a; cases a
            · have et : t = dp m n := by rw [hw] at e; cases e; rfl
              have := (hdf m n c).2
              have h0 : (0 : Int32) ≤ oI (some t) := by rw [oi_s]; exact nI_pos' (by omega)
              refine br_f h1 ⟨hin, br_f h4 ⟨hin, br_f hz ⟨hi2, nm_r e2 ⟨hin, br_t hy (br_t h0 (nm_r (nI_1 i) ?_))⟩⟩⟩⟩
              exact ih (i + 1) (some t) (by omega) (all_s g1 (fun _ => hy')) (Or.inr ⟨m, by omega, b, c, d, by rw [et]⟩)
        · have hy' : ds i n = true := by
            rw [e0, bt_bit _ (by omega), hs i n (by omega)] at hy
            exact bo_t hy
          refine br_f h1 ⟨hin, br_f h4 ⟨hin, br_f hz ⟨hi2, nm_r e2 ⟨hin, br_f hy ?_⟩⟩⟩⟩
          exact hp (some (dp i n)) (Or.inl ⟨i, by omega, hL, hy', rfl⟩)
theorem xx_find {post : Int32 → Prop} {dm ds : Nat → Nat → Bool} {dp : Nat → Nat → Nat} {L : Nat → Bool} {n : Nat} (hM : M ≤ 8) (hn : n < 16) (hs : ∀ m j, j < 32 → bt (sn m) j = ds m j) (hd : ∀ m j, j < 32 → bt (dn m) j = dm m j) (hds : ∀ m j, ds m j = true → dm m j = true) (hdf : ∀ m j, dm m j = true → df (m * 16 + j) = nI (dp m j) ∧ dp m j < 192) (hl : ∀ m, m < M → ld m = bI (L m)) (hp : ∀ o, pl_rs M dm ds dp L n o → post (oI o)) : wpX_findDefinition post (nI mm, nI ms, nI mc, nI nm, nI M, nI S, lk, es, lc, iz, rn, bi, ac, pt, pc, de, oc, bA me, dn, sn, wn, df, nA ow, nA le, nA op, ar, bA wk, ld, rs, lq, il, pn, lo, rf, po, wd, st, ou, va) (nI n) :=
  nm_e ⟨M + 1, xx_find1 (dm := dm) (ds := ds) (dp := dp) (L := L) hM hn hs hd hds hdf hl hp M 0 none (by omega) (fun m hm => absurd hm (Nat.not_lt_zero m)) (Or.inl ⟨rfl, fun m hm => absurd hm (Nat.not_lt_zero m)⟩)⟩
theorem xx_res {post : SX → Prop} {dm ds : Nat → Nat → Bool} {dp : Nat → Nat → Nat} {L : Nat → Bool} {tg : Nat → Option Nat} (hM : M ≤ 8) (hn : nm ≤ 16) (hs : ∀ m j, j < 32 → bt (sn m) j = ds m j) (hd : ∀ m j, j < 32 → bt (dn m) j = dm m j) (hds : ∀ m j, ds m j = true → dm m j = true) (hdf : ∀ m j, dm m j = true → df (m * 16 + j) = nI (dp m j) ∧ dp m j < 192) (hl : ∀ m, m < M → ld m = bI (L m)) (hu : ¬ pl_dup M ds L) (ht : ∀ n, pl_rs M dm ds dp L n (tg n)) (hp : ∀ rs', (∀ n, n < nm → rs' n = oI (tg n)) → post (nI mm, nI ms, nI mc, nI nm, nI M, nI S, lk, es, lc, iz, rn, bi, ac, pt, pc, de, oc, bA me, dn, sn, wn, df, nA ow, nA le, nA op, ar, bA wk, ld, rs', lq, il, pn, lo, rf, po, wd, st, ou, va)) : wpX_resolveNames post (nI mm, nI ms, nI mc, nI nm, nI M, nI S, lk, es, lc, iz, rn, bi, ac, pt, pc, de, oc, bA me, dn, sn, wn, df, nA ow, nA le, nA op, ar, bA wk, ld, rs, lq, il, pn, lo, rf, po, wd, st, ou, va) := by
  have key : ∀ d i rs, i + d = nm → (∀ n, n < i → rs n = oI (tg n)) → wX_resolveNames_2 post (nI mm) (nI ms) (nI mc) (nI nm) (nI M) (nI S) lk es lc iz rn bi ac pt pc de oc (d + 1) (nI i) (bA me) dn sn wn df (nA ow) (nA le) (nA op) ar (bA wk) ld rs lq il pn lo rf po wd st ou va := by
    intro d
    induction d with
    | zero =>
      intro i rs hi hr
      obtain rfl : i = nm := by omega
      exact br_t (nI_le (Nat.le_refl _) (by omega)) (hp rs hr)
    | succ d ih =>
      intro i rs hi hr
      have h1 : ¬ nI nm ≤ nI i := nI_ge (by omega) (by omega)
      refine br_f h1 (xx_find (dm := dm) (ds := ds) (dp := dp) (L := L) hM (by omega) hs hd hds hdf hl ?_)
      intro o ho
      refine ⟨vp_in_nI (by omega) (by omega), nm_e (nm_r (nI_1 i) ?_)⟩
      refine ih (i + 1) _ (by omega) ?_
      rw [nI_clamp (by omega)]
      intro n hn'
      by_cases e : n = i
      · subst e
        rw [pk_us, pl_rsu hds hu ho (ht n)]
      · rw [pk_un e]
        exact hr n (by omega)
  exact ⟨nm + 1, key nm 0 rs (by omega) (fun m hm => absurd hm (Nat.not_lt_zero m))⟩
end
end
section
/-! Y: cells, facts, loading, duplicates, resolution -/
def fr_ok (M nm F : Nat) (fm fn fs : Nat → Nat) (ft : Nat → Bool) (dm ds : Nat → Nat → Bool) (dp : Nat → Nat → Nat) : Prop :=
  F ≤ 128 ∧ (∀ f, f < F → fm f < M ∧ fn f < nm ∧ dm (fm f) (fn f) = true ∧ ds (fm f) (fn f) = ft f ∧ dp (fm f) (fn f) = fs f) ∧ (∀ m n, dm m n = true → ∃ f, f < F ∧ fm f = m ∧ fn f = n) ∧ (∀ f g, f < F → g < F → fm f = fm g → fn f = fn g → f = g)
def wq_ok (ow le op : Nat → Nat) (ar : Nat → Int32) (wk : Nat → Bool) (wq : Nat → Nat → Bool) : Prop :=
  ∀ m n, wq m n = true ↔ ∃ c, c % 16 < le (c / 16) ∧ ow (c / 16) = m ∧ 7 ≤ op c ∧ wk c = false ∧ (ar c).toNatClampNeg = n
def ce_ok (nm S : Nat) (le op : Nat → Nat) (ar : Nat → Int32) : Prop :=
  (∀ s, le s ≤ 12) ∧ (∀ s, S ≤ s → le s = 0) ∧ (∀ c, op c ≤ 13) ∧ (∀ c, 7 ≤ op c → ∃ n, n < nm ∧ ar c = nI n)
theorem ce_S {nm S : Nat} {le op : Nat → Nat} {ar : Nat → Int32} (h : ce_ok nm S le op ar) {c : Nat} (hc : c % 16 < le (c / 16)) : c / 16 < S := by
  apply Nat.lt_of_not_le
  intro z
  rw [h.2.1 _ z] at hc
  omega
section
variable {mm ms mc nm M S F : Nat} {lk sa rn yb yac ypt yde yoc ypc : Int32} {me wk ft : Nat → Bool} {ow le op fm fn fs : Nat → Nat} {ar vl yld ytg ylv yfd yst ou : Nat → Int32}
theorem yy_cell {post : Int32 → Prop} {c : Nat} (hle : ∀ s, le s ≤ 12) (hc : c < 192) (p1 : c % 16 < le (c / 16) → post 1) (p0 : ¬ c % 16 < le (c / 16) → post 0) : wpY_isCell post (nI mm, nI ms, nI mc, nI nm, nI M, nI S, nI F, lk, sa, rn, yb, yac, ypt, yde, yoc, ypc, bA me, nA ow, nA le, nA op, ar, bA wk, vl, nA fm, nA fn, nA fs, bA ft, yld, ytg, ylv, yfd, yst, ou) (nI c) := by
  have l := hle (c / 16)
  have e1 : nI c >>> ((4 : Int32) &&& 31) = nI (c / 16) := li_sh (by omega)
  have e2 : nI c &&& 15 = nI (c % 16) := li_an (by omega)
  have e3 : nA le (nI c >>> ((4 : Int32) &&& 31)).toNatClampNeg = nI (le (c / 16)) := by rw [e1, nI_clamp (by omega)]; rfl
  refine br_f (nI_pos (by omega)) (br_f (nI_ge (b := 192) hc (by decide)) ⟨by rw [e1]; exact vp_in_nI (by omega) (by omega), ?_⟩)
  rw [e3, e2, nI_leI (by omega) (by omega)]
  exact br_c (fun h => p0 (by omega)) (fun h => p1 (by omega))
theorem yy_cellN {post : Int32 → Prop} (p0 : post 0) : wpY_isCell post (nI mm, nI ms, nI mc, nI nm, nI M, nI S, nI F, lk, sa, rn, yb, yac, ypt, yde, yoc, ypc, bA me, nA ow, nA le, nA op, ar, bA wk, vl, nA fm, nA fn, nA fs, bA ft, yld, ytg, ylv, yfd, yst, ou) (-1) := br_t (by decide) p0
theorem yy_fact1 {post : Int32 → Prop} {m n : Nat} (hF : F ≤ 128) (hb : ∀ f, f < F → fm f < 8 ∧ fn f < 16) (hm : m < 16) (hn : n < 16) (p0 : (∀ f, f < F → ¬ (fm f = m ∧ fn f = n)) → post (-1)) (p1 : ∀ f, f < F → fm f = m → fn f = n → post (nI f)) : ∀ d i, i + d = F → (∀ f, f < i → ¬ (fm f = m ∧ fn f = n)) → wY_factOf_2 post (nI m) (nI n) (nI mm) (nI ms) (nI mc) (nI nm) (nI M) (nI S) (nI F) lk sa rn yb yac ypt yde yoc ypc (bA me) (nA ow) (nA le) (nA op) ar (bA wk) vl (nA fm) (nA fn) (nA fs) (bA ft) yld ytg ylv yfd yst ou (d + 1) (nI i) := by
  intro d
  induction d with
  | zero =>
    intro i hi h
    obtain rfl : i = F := by omega
    exact br_t (nI_le (Nat.le_refl _) (by omega)) (p0 h)
  | succ d ih =>
    intro i hi h
    have h1 : ¬ nI F ≤ nI i := nI_ge (by omega) (by omega)
    have hin : vp_in (nI i) 128 := vp_in_nI (by omega) (by omega)
    have b := hb i (by omega)
    have e1 : nA fm (nI i).toNatClampNeg = nI (fm i) := by rw [nI_clamp (by omega)]; rfl
    have e2 : nA fn (nI i).toNatClampNeg = nI (fn i) := by rw [nI_clamp (by omega)]; rfl
    by_cases z1 : fm i = m
    · by_cases z2 : fn i = n
      · exact br_f h1 ⟨hin, br_t (by rw [e1, z1]) ⟨hin, br_t (by rw [e2, z2]) (p1 i (by omega) z1 z2)⟩⟩
      · refine br_f h1 ⟨hin, br_t (by rw [e1, z1]) ⟨hin, br_f (by rw [e2, nI_eq (by omega) (by omega)]; exact z2) (nm_r (nI_1 i) ?_)⟩⟩
        exact ih (i + 1) (by omega) (all_s h (fun z => z2 z.2))
    · refine br_f h1 ⟨hin, br_f (by rw [e1, nI_eq (by omega) (by omega)]; exact z1) (nm_r (nI_1 i) ?_)⟩
      exact ih (i + 1) (by omega) (all_s h (fun z => z1 z.1))
theorem yy_fact {post : Int32 → Prop} {dm ds : Nat → Nat → Bool} {dp : Nat → Nat → Nat} {m n : Nat} (hM : M ≤ 8) (hnm : nm ≤ 16) (hf : fr_ok M nm F fm fn fs ft dm ds dp) (hm : m < 16) (hn : n < 16) (p0 : dm m n = false → post (-1)) (p1 : ∀ f, f < F → fm f = m → fn f = n → dm m n = true → post (nI f)) : wpY_factOf post (nI mm, nI ms, nI mc, nI nm, nI M, nI S, nI F, lk, sa, rn, yb, yac, ypt, yde, yoc, ypc, bA me, nA ow, nA le, nA op, ar, bA wk, vl, nA fm, nA fn, nA fs, bA ft, yld, ytg, ylv, yfd, yst, ou) (nI m) (nI n) := by
  obtain ⟨f1, f2, f3, f4⟩ := hf
  refine ⟨F + 1, yy_fact1 f1 (fun f hf => by have := f2 f hf; omega) hm hn ?_ ?_ F 0 (by omega) (fun m hm => absurd hm (Nat.not_lt_zero m))⟩
  · intro h
    apply p0
    apply bo_n
    intro z
    obtain ⟨f, a, b, c⟩ := f3 m n z
    exact h f a ⟨b, c⟩
  · intro f a b c
    refine p1 f a b c ?_
    rw [← b, ← c]
    exact (f2 f a).2.2.1
def yl_w (le op : Nat → Nat) (ar : Nat → Int32) (wk : Nat → Bool) (ow : Nat → Nat) (L : Nat → Bool) (n c : Nat) : Prop := c % 16 < le (c / 16) ∧ L (ow (c / 16)) = true ∧ 7 ≤ op c ∧ wk c = false ∧ (ar c).toNatClampNeg = n
theorem yy_need1 {post : Int32 → Prop} {L : Nat → Bool} {n : Nat} (hM : M ≤ 8) (hS : S ≤ 12) (hnm : nm ≤ 16) (hce : ce_ok nm S le op ar) (how : ∀ s, s < S → ow s < M) (hl : ∀ m, m < M → yld m = bI (L m)) (hn : n < 16) (p1 : ∀ c, yl_w le op ar wk ow L n c → post 1) (p0 : (∀ c, ¬ yl_w le op ar wk ow L n c) → post 0) : ∀ d i, i + d = 192 → (∀ c, c < i → ¬ yl_w le op ar wk ow L n c) → wY_needed_48 post (nI n) (nI mm) (nI ms) (nI mc) (nI nm) (nI M) (nI S) (nI F) lk sa rn yb yac ypt yde yoc ypc (bA me) (nA ow) (nA le) (nA op) ar (bA wk) vl (nA fm) (nA fn) (nA fs) (bA ft) yld ytg ylv yfd yst ou (d + 1) (nI i) := by
  intro d
  induction d with
  | zero =>
    intro i hi h
    obtain rfl : i = 192 := by omega
    refine br_t (nI_le (a := 192) (Nat.le_refl _) (by omega)) (p0 ?_)
    intro c hc
    have := ce_S hce hc.1
    exact h c (by omega) hc
  | succ d ih =>
    intro i hi h
    have h1 : ¬ (192 : Int32) ≤ nI i := nI_ge (b := 192) (by omega) (by decide)
    refine br_f h1 (yy_cell hce.1 (by omega) ?_ ?_)
    · intro hc
      have hs := ce_S hce hc
      have ho := how _ hs
      have hin : vp_in (nI i) 192 := vp_in_nI (by omega) (by omega)
      have e1 : nI i >>> ((4 : Int32) &&& 31) = nI (i / 16) := li_sh (by omega)
      have e0 := nI_clamp (n := i) (by omega)
      have e2 : nA ow (nI i >>> ((4 : Int32) &&& 31)).toNatClampNeg = nI (ow (i / 16)) := by rw [e1, nI_clamp (by omega)]; rfl
      have i2 : vp_in (nI i >>> ((4 : Int32) &&& 31)) 12 := by rw [e1]; exact vp_in_nI (by omega) (by omega)
      have i3 : vp_in (nA ow (nI i >>> ((4 : Int32) &&& 31)).toNatClampNeg) 8 := by rw [e2]; exact vp_in_nI (by omega) (by omega)
      have e3 : yld (nA ow (nI i >>> ((4 : Int32) &&& 31)).toNatClampNeg).toNatClampNeg = bI (L (ow (i / 16))) := by rw [e2, nI_clamp (by omega), hl _ ho]
      have e4 : nA op (nI i).toNatClampNeg = nI (op i) := by rw [e0]; rfl
      have e5 : bA wk (nI i).toNatClampNeg = bI (wk i) := by rw [e0]; rfl
      have o13 := hce.2.2.1 i
      have go : ¬ yl_w le op ar wk ow L n i → wY_needed_48 post (nI n) (nI mm) (nI ms) (nI mc) (nI nm) (nI M) (nI S) (nI F) lk sa rn yb yac ypt yde yoc ypc (bA me) (nA ow) (nA le) (nA op) ar (bA wk) vl (nA fm) (nA fn) (nA fs) (bA ft) yld ytg ylv yfd yst ou (d + 1) (nI (i + 1)) := fun z => ih (i + 1) (by omega) (all_s h z)
      refine br_f (by decide) ⟨i2, i3, ?_⟩
      cases hL : L (ow (i / 16)) with
      | false =>
        exact br_t (by rw [e3, hL]; rfl) (nm_r (nI_1 i) (go (fun z => by rw [z.2.1] at hL; cases hL)))
      | true =>
        refine br_f (by rw [e3, hL]; decide) ⟨hin, ?_⟩
        by_cases h7 : op i < 7
        · exact br_t (by rw [e4, li_lt7 (by omega)]; exact h7) (nm_r (nI_1 i) (go (fun z => by have := z.2.2.1; omega)))
        · refine br_f (by rw [e4, li_lt7 (by omega)]; exact h7) ⟨hin, ?_⟩
          cases hw : wk i with
          | true =>
            exact br_f (by rw [e5, hw]; decide) (nm_r (nI_1 i) (go (fun z => by rw [z.2.2.2.1] at hw; cases hw)))
          | false =>
            refine br_t (by rw [e5, hw]; rfl) ⟨hin, ?_⟩
            obtain ⟨k, hk, ha⟩ := hce.2.2.2 i (by omega)
            have e6 : ar (nI i).toNatClampNeg = nI k := by rw [e0, ha]
            have e7 : (ar i).toNatClampNeg = k := by rw [ha, nI_clamp (by omega)]
            by_cases hkn : k = n
            · exact br_t (by rw [e6, hkn]) (p1 i ⟨hc, hL, by omega, hw, by rw [e7, hkn]⟩)
            · exact br_f (by rw [e6, nI_eq (by omega) (by omega)]; exact hkn) (nm_r (nI_1 i) (go (fun z => hkn (by rw [← e7]; exact z.2.2.2.2))))
    · intro hc
      exact br_t rfl (nm_r (nI_1 i) (ih (i + 1) (by omega) (all_s h (fun z => hc z.1))))
theorem yy_need {post : Int32 → Prop} {dm ds wq : Nat → Nat → Bool} {dp : Nat → Nat → Nat} {L : Nat → Bool} {n e : Nat} (hM : M ≤ 8) (hS : S ≤ 12) (hnm : nm ≤ 16) (hce : ce_ok nm S le op ar) (how : ∀ s, s < S → ow s < M) (hf : fr_ok M nm F fm fn fs ft dm ds dp) (hwq : wq_ok ow le op ar wk wq) (hl : ∀ m, m < M → yld m = bI (L m)) (hn : n < 16) (he : e < 16) (p1 : pl_nd M dm wq e L n → post 1) (p0 : ¬ pl_nd M dm wq e L n → post 0) : wpY_needed post (nI mm, nI ms, nI mc, nI nm, nI M, nI S, nI F, lk, nI e, rn, yb, yac, ypt, yde, yoc, ypc, bA me, nA ow, nA le, nA op, ar, bA wk, vl, nA fm, nA fn, nA fs, bA ft, yld, ytg, ylv, yfd, yst, ou) (nI n) := by
  have hw : (∃ m, m < M ∧ L m = true ∧ wq m n = true) ↔ ∃ c, yl_w le op ar wk ow L n c := by
    constructor
    · rintro ⟨m, m1, m2, m3⟩
      obtain ⟨c, c1, c2, c3, c4, c5⟩ := (hwq m n).mp m3
      exact ⟨c, c1, by rw [c2]; exact m2, c3, c4, c5⟩
    · rintro ⟨c, c1, c2, c3, c4, c5⟩
      exact ⟨ow (c / 16), how _ (ce_S hce c1), c2, (hwq _ n).mpr ⟨c, c1, rfl, c3, c4, c5⟩⟩
  have key : ∀ d i, i + d = M → (∀ m, m < i → L m = true → dm m n = false) → wY_needed_2 post (nI n) (nI mm) (nI ms) (nI mc) (nI nm) (nI M) (nI S) (nI F) lk (nI e) rn yb yac ypt yde yoc ypc (bA me) (nA ow) (nA le) (nA op) ar (bA wk) vl (nA fm) (nA fn) (nA fs) (bA ft) yld ytg ylv yfd yst ou (d + 1) (nI i) := by
    intro d
    induction d with
    | zero =>
      intro i hi h
      obtain rfl : i = M := by omega
      refine br_t (nI_le (Nat.le_refl _) (by omega)) ?_
      by_cases hne : n = e
      · exact br_t (by rw [hne]) (p1 ⟨Or.inl hne, h⟩)
      · refine br_f (by rw [nI_eq (by omega) (by omega)]; exact hne) ⟨193, yy_need1 (L := L) hM hS hnm hce how hl hn ?_ ?_ 192 0 (by omega) (fun m hm => absurd hm (Nat.not_lt_zero m))⟩
        · intro c hc
          exact p1 ⟨Or.inr (hw.mpr ⟨c, hc⟩), h⟩
        · intro hc
          apply p0
          rintro ⟨z | z, _⟩
          · exact hne z
          · obtain ⟨c, z⟩ := hw.mp z
            exact hc c z
    | succ d ih =>
      intro i hi h
      have h1 : ¬ nI M ≤ nI i := nI_ge (by omega) (by omega)
      have hin : vp_in (nI i) 8 := vp_in_nI (by omega) (by omega)
      have e0 := nI_clamp (n := i) (by omega)
      cases hL : L i with
      | false =>
        have h4 : yld (nI i).toNatClampNeg = 0 := by rw [e0, hl i (by omega), hL]; rfl
        refine br_f h1 ⟨hin, br_t h4 (nm_r (nI_1 i) ?_)⟩
        exact ih (i + 1) (by omega) (all_s h (by rw [hL]; intro z; cases z))
      | true =>
        have h4 : ¬ yld (nI i).toNatClampNeg = 0 := by rw [e0, hl i (by omega), hL]; decide
        refine br_f h1 ⟨hin, br_f h4 (yy_fact (dm := dm) (ds := ds) (dp := dp) hM hnm hf (by omega) hn ?_ ?_)⟩
        · intro hz
          refine br_t (by decide) (nm_r (nI_1 i) ?_)
          exact ih (i + 1) (by omega) (all_s h (fun _ => hz))
        · intro f a b c d
          refine br_f (nI_pos (by have := hf.1; omega)) (p0 ?_)
          rintro ⟨_, z⟩
          rw [z i (by omega) hL] at d
          cases d
  exact ⟨M + 1, key M 0 (by omega) (fun m hm => absurd hm (Nat.not_lt_zero m))⟩
theorem yy_helps {post : Int32 → Prop} {dm ds wq : Nat → Nat → Bool} {dp : Nat → Nat → Nat} {L : Nat → Bool} {m e : Nat} (hM : M ≤ 8) (hS : S ≤ 12) (hnm : nm ≤ 16) (hce : ce_ok nm S le op ar) (how : ∀ s, s < S → ow s < M) (hf : fr_ok M nm F fm fn fs ft dm ds dp) (hwq : wq_ok ow le op ar wk wq) (hl : ∀ m, m < M → yld m = bI (L m)) (hdn : ∀ m n, dm m n = true → n < nm) (hm : m < 16) (he : e < 16) (p1 : (∃ n, dm m n = true ∧ pl_nd M dm wq e L n) → post 1) (p0 : (¬ ∃ n, dm m n = true ∧ pl_nd M dm wq e L n) → post 0) : wpY_helps post (nI mm, nI ms, nI mc, nI nm, nI M, nI S, nI F, lk, nI e, rn, yb, yac, ypt, yde, yoc, ypc, bA me, nA ow, nA le, nA op, ar, bA wk, vl, nA fm, nA fn, nA fs, bA ft, yld, ytg, ylv, yfd, yst, ou) (nI m) := by
  have key : ∀ d i, i + d = nm → (∀ n, n < i → ¬ (dm m n = true ∧ pl_nd M dm wq e L n)) → wY_helps_2 post (nI m) (nI mm) (nI ms) (nI mc) (nI nm) (nI M) (nI S) (nI F) lk (nI e) rn yb yac ypt yde yoc ypc (bA me) (nA ow) (nA le) (nA op) ar (bA wk) vl (nA fm) (nA fn) (nA fs) (bA ft) yld ytg ylv yfd yst ou (d + 1) (nI i) := by
    intro d
    induction d with
    | zero =>
      intro i hi h
      obtain rfl : i = nm := by omega
      refine br_t (nI_le (Nat.le_refl _) (by omega)) (p0 ?_)
      rintro ⟨n, z⟩
      exact h n (hdn m n z.1) z
    | succ d ih =>
      intro i hi h
      have h1 : ¬ nI nm ≤ nI i := nI_ge (by omega) (by omega)
      refine br_f h1 (yy_fact (dm := dm) (ds := ds) (dp := dp) hM hnm hf hm (by omega) ?_ ?_)
      · intro hz
        refine br_t (by decide) (nm_r (nI_1 i) ?_)
        exact ih (i + 1) (by omega) (all_s h (fun z => by rw [hz] at z; cases z.1))
      · intro f a b c d
        refine br_f (nI_pos (by have := hf.1; omega)) (yy_need (dm := dm) (ds := ds) (dp := dp) (wq := wq) (L := L) (e := e) hM hS hnm hce how hf hwq hl (by omega) he ?_ ?_)
        · intro hnd
          exact br_f (by decide) (p1 ⟨i, d, hnd⟩)
        · intro hnd
          refine br_t rfl (nm_r (nI_1 i) ?_)
          exact ih (i + 1) (by omega) (all_s h (fun z => hnd z.2))
  exact ⟨nm + 1, key nm 0 (by omega) (fun m hm => absurd hm (Nat.not_lt_zero m))⟩
theorem yy_load59 {post : SY → Prop} {J : Int32 → (Nat → Int32) → (Nat → Int32) → (Nat → Int32) → (Nat → Int32) → (Nat → Int32) → (Nat → Int32) → (Nat → Int32) → (Nat → Int32) → (Nat → Int32) → (Nat → Int32) → (Nat → Int32) → (Nat → Int32) → (Nat → Int32) → (Nat → Int32) → (Nat → Int32) → (Nat → Int32) → (Nat → Int32) → Prop} {dm ds wq : Nat → Nat → Bool} {dp : Nat → Nat → Nat} {L : Nat → Bool} {e i : Nat} (hM : M ≤ 8) (hS : S ≤ 12) (hnm : nm ≤ 16) (hce : ce_ok nm S le op ar) (how : ∀ s, s < S → ow s < M) (hf : fr_ok M nm F fm fn fs ft dm ds dp) (hwq : wq_ok ow le op ar wk wq) (hl : ∀ m, m < M → yld m = bI (L m)) (hdn : ∀ m n, dm m n = true → n < nm) (he : e < 16) (j0 : (∀ m, ¬ pl_pv M dm wq e L m) → J (nI (i + 1)) (bA me) (nA ow) (nA le) (nA op) ar (bA wk) vl (nA fm) (nA fn) (nA fs) (bA ft) yld ytg ylv yfd yst ou) (j1 : ∀ m, pl_pv M dm wq e L m → (∀ j, j < m → ¬ pl_pv M dm wq e L j) → J (nI (i + 1)) (bA me) (nA ow) (nA le) (nA op) ar (bA wk) vl (nA fm) (nA fn) (nA fs) (bA ft) (upd yld m 1) ytg ylv yfd yst ou) : ∀ k w, k ≤ M → ((w = none ∧ ∀ m, k ≤ m → ¬ pl_pv M dm wq e L m) ∨ ∃ m, w = some m ∧ pl_pv M dm wq e L m ∧ ∀ j, k ≤ j → j < m → ¬ pl_pv M dm wq e L j) → wY_load_59 post J (nI i) (nI mm) (nI ms) (nI mc) (nI nm) (nI M) (nI S) (nI F) lk (nI e) rn yb yac ypt yde yoc ypc (bA me) (nA ow) (nA le) (nA op) ar (bA wk) vl (nA fm) (nA fn) (nA fs) (bA ft) yld ytg ylv yfd yst ou (k + 1) (oI w) (nI k - 1) := by
  intro k
  induction k with
  | zero =>
    intro w hk h
    have h1 : nI 0 - 1 < 0 := by decide
    rcases h with ⟨h2, h3⟩ | ⟨m, h2, h3, h4⟩
    · subst h2
      exact br_t h1 (br_t (by decide) (nm_r (nI_1 i) (j0 (fun m => h3 m (Nat.zero_le m)))))
    · subst h2
      have := h3.1
      refine br_t h1 (br_f (nI_pos (by omega)) ⟨vp_in_nI (by omega) (by omega), nm_e (nm_r (nI_1 i) ?_)⟩)
      rw [oi_s, nI_clamp (by omega)]
      exact j1 m h3 (fun j hj => h4 j (Nat.zero_le j) hj)
  | succ k ih =>
    intro w hk h
    rw [li_pr]
    have h1 : ¬ nI k < 0 := nI_pos (by omega)
    have hin : vp_in (nI k) 8 := vp_in_nI (by omega) (by omega)
    have e0 := nI_clamp (n := k) (by omega)
    have e1 : nI k + (-1) = nI k - 1 := (Int32.sub_eq_add_neg (nI k) 1).symm
    have keep : ¬ pl_pv M dm wq e L k → wY_load_59 post J (nI i) (nI mm) (nI ms) (nI mc) (nI nm) (nI M) (nI S) (nI F) lk (nI e) rn yb yac ypt yde yoc ypc (bA me) (nA ow) (nA le) (nA op) ar (bA wk) vl (nA fm) (nA fn) (nA fs) (bA ft) yld ytg ylv yfd yst ou (k + 1) (oI w) (nI k - 1) := by
      intro hz
      refine ih w (by omega) ?_
      rcases h with ⟨h2, h3⟩ | ⟨m, h2, h3, h4⟩
      · refine Or.inl ⟨h2, fun m hm => ?_⟩
        rcases Nat.lt_or_ge k m with z | z
        · exact h3 m z
        · have : m = k := by omega
          rw [this]; exact hz
      · refine Or.inr ⟨m, h2, h3, fun j hj hjm => ?_⟩
        rcases Nat.lt_or_ge k j with z | z
        · exact h4 j z hjm
        · have : j = k := by omega
          rw [this]; exact hz
    cases hL : L k with
    | true =>
      have h4 : ¬ yld (nI k).toNatClampNeg = 0 := by rw [e0, hl k (by omega), hL]; decide
      exact br_f h1 ⟨hin, br_f h4 (nm_r e1 (keep (fun z => by rw [z.2.1] at hL; cases hL)))⟩
    | false =>
      have h4 : yld (nI k).toNatClampNeg = 0 := by rw [e0, hl k (by omega), hL]; rfl
      refine br_f h1 ⟨hin, br_t h4 (yy_helps (dm := dm) (ds := ds) (dp := dp) (wq := wq) (L := L) (e := e) hM hS hnm hce how hf hwq hl hdn (by omega) he ?_ ?_)⟩
      · intro hp
        refine br_f (by decide) (nm_r e1 ?_)
        exact ih (some k) (by omega) (Or.inr ⟨k, rfl, ⟨by omega, hL, hp⟩, fun j hj hjk => by omega⟩)
      · intro hp
        exact br_t rfl (nm_r e1 (keep (fun z => hp z.2.2)))
theorem yy_load {post : SY → Prop} {dm ds wq : Nat → Nat → Bool} {dp : Nat → Nat → Nat} {e : Nat} (hM : M ≤ 8) (hS : S ≤ 12) (hnm : nm ≤ 16) (hce : ce_ok nm S le op ar) (how : ∀ s, s < S → ow s < M) (hf : fr_ok M nm F fm fn fs ft dm ds dp) (hwq : wq_ok ow le op ar wk wq) (hdn : ∀ m n, dm m n = true → n < nm) (he : e < 16) (hp : ∀ ld', (∀ m, m < M → ld' m = bI (pl_sq M dm wq e (fun m => !me m) 8 m)) → post (nI mm, nI ms, nI mc, nI nm, nI M, nI S, nI F, lk, nI e, rn, yb, yac, ypt, yde, yoc, ypc, bA me, nA ow, nA le, nA op, ar, bA wk, vl, nA fm, nA fn, nA fs, bA ft, ld', ytg, ylv, yfd, yst, ou)) : wpY_load post (nI mm, nI ms, nI mc, nI nm, nI M, nI S, nI F, lk, nI e, rn, yb, yac, ypt, yde, yoc, ypc, bA me, nA ow, nA le, nA op, ar, bA wk, vl, nA fm, nA fn, nA fs, bA ft, yld, ytg, ylv, yfd, yst, ou) := by
  have k44 : ∀ d i yld, i + d = 8 → (∀ m, m < M → yld m = bI (pl_sq M dm wq e (fun m => !me m) i m)) → wY_load_44 post (nI mm) (nI ms) (nI mc) (nI nm) (nI M) (nI S) (nI F) lk (nI e) rn yb yac ypt yde yoc ypc (d + 1) (nI i) (bA me) (nA ow) (nA le) (nA op) ar (bA wk) vl (nA fm) (nA fn) (nA fs) (bA ft) yld ytg ylv yfd yst ou := by
    intro d
    induction d with
    | zero =>
      intro i yld hi hl
      obtain rfl : i = 8 := by omega
      exact br_t (nI_le (a := 8) (Nat.le_refl _) (by decide)) (hp yld hl)
    | succ d ih =>
      intro i yld hi hl
      have h1 : ¬ (8 : Int32) ≤ nI i := nI_ge (b := 8) (by omega) (by decide)
      refine br_f h1 (nm_e ⟨M + 1, ?_⟩)
      refine yy_load59 (dm := dm) (ds := ds) (dp := dp) (wq := wq) (L := pl_sq M dm wq e (fun m => !me m) i) (e := e) (i := i) hM hS hnm hce how hf hwq hl hdn he ?_ ?_ M none (Nat.le_refl _) ?_
      · intro hno
        refine ih (i + 1) yld (by omega) ?_
        intro m hm
        rw [pl_s0 hno 1]
        exact hl m hm
      · intro m h1 h2
        refine ih (i + 1) _ (by omega) ?_
        intro m' hm'
        rw [pl_s1 h1 h2]
        by_cases e : m' = m
        · subst e
          rw [pk_us, ub_s]
          rfl
        · rw [pk_un e, ub_n e]
          exact hl m' hm'
      · exact Or.inl ⟨rfl, fun m hm z => by have := z.1; omega⟩
  have k2 : ∀ d i yld, i + d = 8 → (∀ m, m < i → m < M → yld m = bI (!me m)) → wY_load_2 post (nI mm) (nI ms) (nI mc) (nI nm) (nI M) (nI S) (nI F) lk (nI e) rn yb yac ypt yde yoc ypc (d + 1) (nI i) (bA me) (nA ow) (nA le) (nA op) ar (bA wk) vl (nA fm) (nA fn) (nA fs) (bA ft) yld ytg ylv yfd yst ou := by
    intro d
    induction d with
    | zero =>
      intro i yld hi hl
      obtain rfl : i = 8 := by omega
      refine br_t (nI_le (a := 8) (Nat.le_refl _) (by decide)) ⟨9, ?_⟩
      exact k44 8 0 yld (by omega) (fun m hm => hl m (by omega) hm)
    | succ d ih =>
      intro i yld hi hl
      have h1 : ¬ (8 : Int32) ≤ nI i := nI_ge (b := 8) (by omega) (by decide)
      have hin : vp_in (nI i) 8 := vp_in_nI (by omega) (by omega)
      have e0 := nI_clamp (n := i) (by omega)
      by_cases hi2 : M ≤ i
      · refine br_f h1 (br_t (nI_le hi2 (by omega)) ⟨hin, nm_e (nm_r (nI_1 i) ?_)⟩)
        refine ih (i + 1) _ (by omega) ?_
        rw [e0]
        intro m hm hm2
        rw [pk_un (by omega)]
        exact hl m (by omega) hm2
      · have h2 : ¬ nI M ≤ nI i := nI_ge (by omega) (by omega)
        cases hm : me i with
        | false =>
          have h4 : bA me (nI i).toNatClampNeg = 0 := by rw [e0, ba_ap, hm]; rfl
          refine br_f h1 (br_f h2 ⟨hin, br_t h4 ⟨hin, nm_e (nm_r (nI_1 i) ?_)⟩⟩)
          refine ih (i + 1) _ (by omega) ?_
          rw [e0]
          intro m hm' hm2
          by_cases e : m = i
          · subst e
            rw [pk_us, hm]
            rfl
          · rw [pk_un e]
            exact hl m (by omega) hm2
        | true =>
          have h4 : ¬ bA me (nI i).toNatClampNeg = 0 := by rw [e0, ba_ap, hm]; decide
          refine br_f h1 (br_f h2 ⟨hin, br_f h4 ⟨hin, nm_e (nm_r (nI_1 i) ?_)⟩⟩)
          refine ih (i + 1) _ (by omega) ?_
          rw [e0]
          intro m hm' hm2
          by_cases e : m = i
          · subst e
            rw [pk_us, hm]
            rfl
          · rw [pk_un e]
            exact hl m (by omega) hm2
  exact ⟨9, k2 8 0 yld (by omega) (fun m hm => absurd hm (Nat.not_lt_zero m))⟩
end
end
section
/-! Y: duplicates and resolution -/
def yl_c (fm fn : Nat → Nat) (ft L : Nat → Bool) (f g : Nat) : Prop := fn f = fn g ∧ ft f = true ∧ ft g = true ∧ L (fm f) = true ∧ L (fm g) = true
theorem yl_dup {M nm F : Nat} {fm fn fs : Nat → Nat} {ft L : Nat → Bool} {dm ds : Nat → Nat → Bool} {dp : Nat → Nat → Nat} (hf : fr_ok M nm F fm fn fs ft dm ds dp) (hds : ∀ m j, ds m j = true → dm m j = true) : pl_dup M ds L ↔ ∃ f g, f < F ∧ g < f ∧ yl_c fm fn ft L f g := by
  obtain ⟨f1, f2, f3, f4⟩ := hf
  constructor
  · rintro ⟨m, m', n, a1, a2, a3, a4, a5, a6⟩
    obtain ⟨f, b1, b2, b3⟩ := f3 m n (hds m n a5)
    obtain ⟨g, c1, c2, c3⟩ := f3 m' n (hds m' n a6)
    have x1 : ft f = true := by rw [← (f2 f b1).2.2.2.1, b2, b3]; exact a5
    have x2 : ft g = true := by rw [← (f2 g c1).2.2.2.1, c2, c3]; exact a6
    rcases Nat.lt_trichotomy f g with z | z | z
    · exact ⟨g, f, c1, z, by rw [b3, c3], x2, x1, by rw [c2]; exact a4, by rw [b2]; exact a3⟩
    · subst z
      omega
    · exact ⟨f, g, b1, z, by rw [b3, c3], x1, x2, by rw [b2]; exact a3, by rw [c2]; exact a4⟩
  · rintro ⟨f, g, h1, h2, e, x1, x2, l1, l2⟩
    have hg : g < F := by omega
    have hne : fm f ≠ fm g := fun z => by have := f4 f g h1 hg z e; omega
    have d1 : ds (fm f) (fn f) = true := by rw [(f2 f h1).2.2.2.1]; exact x1
    have d2 : ds (fm g) (fn f) = true := by rw [e, (f2 g hg).2.2.2.1]; exact x2
    rcases Nat.lt_trichotomy (fm f) (fm g) with z | z | z
    · exact ⟨fm f, fm g, fn f, z, (f2 g hg).1, l1, l2, d1, d2⟩
    · exact absurd z hne
    · exact ⟨fm g, fm f, fn f, z, (f2 f h1).1, l2, l1, d2, d1⟩
section
variable {mm ms mc nm M S F : Nat} {lk sa rn yb yac ypt yde yoc ypc : Int32} {me wk ft : Nat → Bool} {ow le op fm fn fs : Nat → Nat} {ar vl yld ytg ylv yfd yst ou : Nat → Int32}
theorem yy_dup1 {post : Int32 → SY → Prop} {J : Int32 → Prop} {L : Nat → Bool} {f : Nat} (hF : F ≤ 128) (hM : M ≤ 8) (hfF : f < F) (hb : ∀ f, f < F → fm f < M ∧ fn f < 16) (hl : ∀ m, m < M → yld m = bI (L m)) (p1 : ∀ g, g < f → yl_c fm fn ft L f g → post 1 (nI mm, nI ms, nI mc, nI nm, nI M, nI S, nI F, lk, sa, rn, yb, yac, ypt, yde, yoc, ypc, bA me, nA ow, nA le, nA op, ar, bA wk, vl, nA fm, nA fn, nA fs, bA ft, yld, ytg, ylv, yfd, yst, ou)) (p0 : (∀ g, g < f → ¬ yl_c fm fn ft L f g) → J (nI (f + 1))) : ∀ d i, i + d = f → (∀ g, g < i → ¬ yl_c fm fn ft L f g) → wY_link_40 post J (nI f) (nI mm) (nI ms) (nI mc) (nI nm) (nI M) (nI S) (nI F) lk sa rn yb yac ypt yde yoc ypc (bA me) (nA ow) (nA le) (nA op) ar (bA wk) vl (nA fm) (nA fn) (nA fs) (bA ft) yld ytg ylv yfd yst ou (d + 1) (nI i) := by
  intro d
  induction d with
  | zero =>
    intro i hi h
    obtain rfl : i = f := by omega
    exact br_t (nI_le (Nat.le_refl _) (by omega)) (nm_r (nI_1 i) (p0 h))
  | succ d ih =>
    intro i hi h
    have h1 : ¬ nI f ≤ nI i := nI_ge (by omega) (by omega)
    have i1 : vp_in (nI f) 128 := vp_in_nI (by omega) (by omega)
    have i2 : vp_in (nI i) 128 := vp_in_nI (by omega) (by omega)
    have b1 := hb f hfF
    have b2 := hb i (by omega)
    have c1 := nI_clamp (n := f) (by omega)
    have c2 := nI_clamp (n := i) (by omega)
    have e1 : nA fn (nI f).toNatClampNeg = nI (fn f) := by rw [c1]; rfl
    have e2 : nA fn (nI i).toNatClampNeg = nI (fn i) := by rw [c2]; rfl
    have e3 : nA fm (nI f).toNatClampNeg = nI (fm f) := by rw [c1]; rfl
    have e4 : nA fm (nI i).toNatClampNeg = nI (fm i) := by rw [c2]; rfl
    have e5 : bA ft (nI f).toNatClampNeg = bI (ft f) := by rw [c1]; rfl
    have e6 : bA ft (nI i).toNatClampNeg = bI (ft i) := by rw [c2]; rfl
    have go : ¬ yl_c fm fn ft L f i → wY_link_40 post J (nI f) (nI mm) (nI ms) (nI mc) (nI nm) (nI M) (nI S) (nI F) lk sa rn yb yac ypt yde yoc ypc (bA me) (nA ow) (nA le) (nA op) ar (bA wk) vl (nA fm) (nA fn) (nA fs) (bA ft) yld ytg ylv yfd yst ou (d + 1) (nI (i + 1)) := fun z => ih (i + 1) (by omega) (all_s h z)
    refine br_f h1 ⟨i1, i2, ?_⟩
    by_cases z1 : fn f = fn i
    · refine br_t (by rw [e1, e2, z1]) ⟨i1, ?_⟩
      cases z2 : ft f with
      | false => exact br_t (by rw [e5, z2]; rfl) (nm_r (nI_1 i) (go (fun z => by rw [z.2.1] at z2; cases z2)))
      | true =>
        refine br_f (by rw [e5, z2]; decide) ⟨i2, ?_⟩
        cases z3 : ft i with
        | false => exact br_t (by rw [e6, z3]; rfl) (nm_r (nI_1 i) (go (fun z => by rw [z.2.2.1] at z3; cases z3)))
        | true =>
          refine br_f (by rw [e6, z3]; decide) ⟨i1, by rw [e3]; exact vp_in_nI (by omega) (by omega), ?_⟩
          have e7 : yld (nA fm (nI f).toNatClampNeg).toNatClampNeg = bI (L (fm f)) := by rw [e3, nI_clamp (by omega), hl _ b1.1]
          have e8 : yld (nA fm (nI i).toNatClampNeg).toNatClampNeg = bI (L (fm i)) := by rw [e4, nI_clamp (by omega), hl _ b2.1]
          cases z4 : L (fm f) with
          | false => exact br_t (by rw [e7, z4]; rfl) (nm_r (nI_1 i) (go (fun z => by rw [z.2.2.2.1] at z4; cases z4)))
          | true =>
            refine br_f (by rw [e7, z4]; decide) ⟨i2, by rw [e4]; exact vp_in_nI (by omega) (by omega), ?_⟩
            cases z5 : L (fm i) with
            | false => exact br_t (by rw [e8, z5]; rfl) (nm_r (nI_1 i) (go (fun z => by rw [z.2.2.2.2] at z5; cases z5)))
            | true => exact br_f (by rw [e8, z5]; decide) (p1 i (by omega) ⟨z1, z2, z3, z4, z5⟩)
    · exact br_f (by rw [e1, e2, nI_eq (by omega) (by omega)]; exact z1) (nm_r (nI_1 i) (go (fun z => z1 z.1)))
theorem yy_dup {post : Int32 → SY → Prop} {L : Nat → Bool} {dm ds : Nat → Nat → Bool} {dp : Nat → Nat → Nat} (hM : M ≤ 8) (hnm : nm ≤ 16) (hf : fr_ok M nm F fm fn fs ft dm ds dp) (hds : ∀ m j, ds m j = true → dm m j = true) (hl : ∀ m, m < M → yld m = bI (L m)) (p1 : pl_dup M ds L → post 1 (nI mm, nI ms, nI mc, nI nm, nI M, nI S, nI F, lk, sa, rn, yb, yac, ypt, yde, yoc, ypc, bA me, nA ow, nA le, nA op, ar, bA wk, vl, nA fm, nA fn, nA fs, bA ft, yld, ytg, ylv, yfd, yst, ou)) (p0 : ¬ pl_dup M ds L → ∃ n, wY_link_122 post (nI mm) (nI ms) (nI mc) (nI nm) (nI M) (nI S) (nI F) lk sa rn yb yac ypt yde yoc ypc n 0 (bA me) (nA ow) (nA le) (nA op) ar (bA wk) vl (nA fm) (nA fn) (nA fs) (bA ft) yld ytg ylv yfd yst ou) : ∃ n, wY_link_30 post (nI mm) (nI ms) (nI mc) (nI nm) (nI M) (nI S) (nI F) lk sa rn yb yac ypt yde yoc ypc (bA me) (nA ow) (nA le) (nA op) ar (bA wk) vl (nA fm) (nA fn) (nA fs) (bA ft) yld ytg ylv yfd yst ou n 0 := by
  have hd := yl_dup (L := L) hf hds
  have hF := hf.1
  have hb : ∀ f, f < F → fm f < M ∧ fn f < 16 := fun f h => by have := hf.2.1 f h; omega
  have key : ∀ d i, i + d = F → (∀ f, f < i → ∀ g, g < f → ¬ yl_c fm fn ft L f g) → wY_link_30 post (nI mm) (nI ms) (nI mc) (nI nm) (nI M) (nI S) (nI F) lk sa rn yb yac ypt yde yoc ypc (bA me) (nA ow) (nA le) (nA op) ar (bA wk) vl (nA fm) (nA fn) (nA fs) (bA ft) yld ytg ylv yfd yst ou (d + 1) (nI i) := by
    intro d
    induction d with
    | zero =>
      intro i hi h
      obtain rfl : i = F := by omega
      refine br_t (nI_le (Nat.le_refl _) (by omega)) (p0 ?_)
      intro z
      obtain ⟨f, g, a, b, c⟩ := hd.mp z
      exact h f a g b c
    | succ d ih =>
      intro i hi h
      have h1 : ¬ nI F ≤ nI i := nI_ge (by omega) (by omega)
      refine br_f h1 ⟨i + 1, yy_dup1 (L := L) hF hM (by omega) hb hl ?_ ?_ i 0 (by omega) (fun m hm => absurd hm (Nat.not_lt_zero m))⟩
      · intro g hg hc
        exact p1 (hd.mpr ⟨i, g, by omega, hg, hc⟩)
      · intro hc
        exact ih (i + 1) (by omega) (all_s h hc)
  exact ⟨F + 1, key F 0 (by omega) (fun m hm => absurd hm (Nat.not_lt_zero m))⟩
theorem yy_spot {post : Int32 → Prop} {L : Nat → Bool} {dm ds : Nat → Nat → Bool} {dp : Nat → Nat → Nat} {n : Nat} (hM : M ≤ 8) (hnm : nm ≤ 16) (hn : n < 16) (hf : fr_ok M nm F fm fn fs ft dm ds dp) (hds : ∀ m j, ds m j = true → dm m j = true) (hl : ∀ m, m < M → yld m = bI (L m)) (hp : ∀ o, pl_rs M dm ds dp L n o → post (oI o)) : wpY_spotOf post (nI mm, nI ms, nI mc, nI nm, nI M, nI S, nI F, lk, sa, rn, yb, yac, ypt, yde, yoc, ypc, bA me, nA ow, nA le, nA op, ar, bA wk, vl, nA fm, nA fn, nA fs, bA ft, yld, ytg, ylv, yfd, yst, ou) (nI n) := by
  have hF := hf.1
  have k58 : (∀ m, m < M → L m = true → ds m n = false) → ∀ d i, i + d = M → (∀ m, m < i → L m = true → dm m n = false) → wY_spotOf_58 post (nI n) (nI mm) (nI ms) (nI mc) (nI nm) (nI M) (nI S) (nI F) lk sa rn yb yac ypt yde yoc ypc (bA me) (nA ow) (nA le) (nA op) ar (bA wk) vl (nA fm) (nA fn) (nA fs) (bA ft) yld ytg ylv yfd yst ou (d + 1) (nI i) := by
    intro hs d
    induction d with
    | zero =>
      intro i hi h
      obtain rfl : i = M := by omega
      exact br_t (nI_le (Nat.le_refl _) (by omega)) (hp none (Or.inr (Or.inr ⟨h, rfl⟩)))
    | succ d ih =>
      intro i hi h
      have h1 : ¬ nI M ≤ nI i := nI_ge (by omega) (by omega)
      have hin : vp_in (nI i) 8 := vp_in_nI (by omega) (by omega)
      have e0 := nI_clamp (n := i) (by omega)
      refine br_f h1 (yy_fact (dm := dm) (ds := ds) (dp := dp) hM hnm hf (by omega) hn ?_ ?_)
      · intro hz
        refine br_t (by decide) (nm_r (nI_1 i) ?_)
        exact ih (i + 1) (by omega) (all_s h (fun _ => hz))
      · intro f a b c hz
        refine br_f (nI_pos (by omega)) ⟨hin, ?_⟩
        cases hL : L i with
        | false =>
          have h4 : yld (nI i).toNatClampNeg = 0 := by rw [e0, hl i (by omega), hL]; rfl
          exact br_t h4 (nm_r (nI_1 i) (ih (i + 1) (by omega) (all_s h (by rw [hL]; intro z; cases z))))
        | true =>
          have h4 : ¬ yld (nI i).toNatClampNeg = 0 := by rw [e0, hl i (by omega), hL]; decide
          refine br_f h4 ⟨vp_in_nI (by omega) (by omega), ?_⟩
          have e1 : nA fs (nI f).toNatClampNeg = oI (some (dp i n)) := by
            rw [nI_clamp (by omega), ← b, ← c, (hf.2.1 f a).2.2.2.2]
            rfl
          rw [e1]
          exact hp _ (Or.inr (Or.inl ⟨hs, i, by omega, hL, hz, h, rfl⟩))
  have k2 : ∀ d i, i + d = F → (∀ f, f < i → ¬ (fn f = n ∧ ft f = true ∧ L (fm f) = true)) → wY_spotOf_2 post (nI n) (nI mm) (nI ms) (nI mc) (nI nm) (nI M) (nI S) (nI F) lk sa rn yb yac ypt yde yoc ypc (bA me) (nA ow) (nA le) (nA op) ar (bA wk) vl (nA fm) (nA fn) (nA fs) (bA ft) yld ytg ylv yfd yst ou (d + 1) (nI i) := by
    intro d
    induction d with
    | zero =>
      intro i hi h
      obtain rfl : i = F := by omega
      refine br_t (nI_le (Nat.le_refl _) (by omega)) ⟨M + 1, k58 ?_ M 0 (by omega) (fun m hm => absurd hm (Nat.not_lt_zero m))⟩
      intro m hm hL
      apply bo_n
      intro z
      obtain ⟨f, a, b, c⟩ := hf.2.2.1 m n (hds m n z)
      refine h f a ⟨c, ?_, by rw [b]; exact hL⟩
      rw [← (hf.2.1 f a).2.2.2.1, b, c]
      exact z
    | succ d ih =>
      intro i hi h
      have h1 : ¬ nI F ≤ nI i := nI_ge (by omega) (by omega)
      have hin : vp_in (nI i) 128 := vp_in_nI (by omega) (by omega)
      have b := hf.2.1 i (by omega)
      have e0 := nI_clamp (n := i) (by omega)
      have e1 : nA fn (nI i).toNatClampNeg = nI (fn i) := by rw [e0]; rfl
      have e3 : nA fm (nI i).toNatClampNeg = nI (fm i) := by rw [e0]; rfl
      have e5 : bA ft (nI i).toNatClampNeg = bI (ft i) := by rw [e0]; rfl
      have e7 : yld (nA fm (nI i).toNatClampNeg).toNatClampNeg = bI (L (fm i)) := by rw [e3, nI_clamp (by omega), hl _ b.1]
      refine br_f h1 ⟨hin, ?_⟩
      by_cases z1 : fn i = n
      · refine br_t (by rw [e1, z1]) ⟨hin, ?_⟩
        cases z2 : ft i with
        | false => exact br_t (by rw [e5, z2]; rfl) (nm_r (nI_1 i) (ih (i + 1) (by omega) (all_s h (fun z => by rw [z.2.1] at z2; cases z2))))
        | true =>
          refine br_f (by rw [e5, z2]; decide) ⟨hin, by rw [e3]; exact vp_in_nI (by omega) (by omega), ?_⟩
          cases z3 : L (fm i) with
          | false => exact br_t (by rw [e7, z3]; rfl) (nm_r (nI_1 i) (ih (i + 1) (by omega) (all_s h (fun z => by rw [z.2.2] at z3; cases z3))))
          | true =>
            refine br_f (by rw [e7, z3]; decide) ⟨hin, ?_⟩
            have e9 : nA fs (nI i).toNatClampNeg = oI (some (dp (fm i) n)) := by
              rw [e0, ← z1, b.2.2.2.2]
              rfl
            rw [e9]
            exact hp _ (Or.inl ⟨fm i, b.1, z3, by rw [← z1, b.2.2.2.1]; exact z2, rfl⟩)
      · exact br_f (by rw [e1, nI_eq (by omega) (by omega)]; exact z1) (nm_r (nI_1 i) (ih (i + 1) (by omega) (all_s h (fun z => z1 z.1))))
  exact ⟨F + 1, k2 F 0 (by omega) (fun m hm => absurd hm (Nat.not_lt_zero m))⟩
end
end
section
/-! X: collecting and pinning -/
def xc_inv (S : Nat) (le : Nat → Nat) (ct : Nat → Option Nat) (e0 : Nat) (b : Nat → Bool) (q : Nat → Nat) (k : Nat) (lq il : Nat → Int32) : Prop :=
  (∀ s, s < S → il s = bI (b s)) ∧ (∀ s, b s = true → s < S ∧ pf_lv le ct e0 s) ∧ k = cb b S ∧ (∀ j, j < k → lq j = nI (q j) ∧ b (q j) = true) ∧ (∀ s, b s = true → ∃ j, j < k ∧ q j = s)
def xc_ext (b : Nat → Bool) (q : Nat → Nat) (k : Nat) (b' : Nat → Bool) (q' : Nat → Nat) (k' : Nat) : Prop := k ≤ k' ∧ (∀ j, j < k → q' j = q j) ∧ ∀ s, b s = true → b' s = true
theorem xc_rfl (b : Nat → Bool) (q : Nat → Nat) (k : Nat) : xc_ext b q k b q k := ⟨Nat.le_refl _, fun _ _ => rfl, fun _ h => h⟩
theorem xc_trans {b b' b'' : Nat → Bool} {q q' q'' : Nat → Nat} {k k' k'' : Nat} (h : xc_ext b q k b' q' k') (g : xc_ext b' q' k' b'' q'' k'') : xc_ext b q k b'' q'' k'' :=
  ⟨Nat.le_trans h.1 g.1, fun j hj => (g.2.1 j (Nat.lt_of_lt_of_le hj h.1)).trans (h.2.1 j hj), fun s hs => g.2.2 s (h.2.2 s hs)⟩
def xc_cl (le : Nat → Nat) (ct : Nat → Option Nat) (b : Nat → Bool) (s i : Nat) : Prop := ∀ o x, o < i → ct (s * 16 + o) = some x → b (x / 16) = true
def xc_gd (op : Nat → Nat) (wk : Nat → Bool) (ct : Nat → Option Nat) (s i : Nat) : Prop := ∀ o, o < i → ¬ (7 ≤ op (s * 16 + o) ∧ wk (s * 16 + o) = false ∧ ct (s * 16 + o) = none)
section
variable {mm ms mc nm M S : Nat} {lk es lc iz rn bi ac pt pc de oc : Int32} {me wk : Nat → Bool} {ow le op : Nat → Nat} {dn sn wn df ar ld rs lq il pn lo rf po st ou va : Nat → Int32} {wd : Nat → Int64}
theorem xx_mark {post : SX → Prop} {ct : Nat → Option Nat} {e0 k s : Nat} {b : Nat → Bool} {q : Nat → Nat} (hS : S ≤ 12) (hs : s < S) (hv : pf_lv le ct e0 s) (I : xc_inv S le ct e0 b q k lq il) (hp : ∀ b' q' k' lq' il', xc_inv S le ct e0 b' q' k' lq' il' → xc_ext b q k b' q' k' → b' s = true → post (nI mm, nI ms, nI mc, nI nm, nI M, nI S, lk, es, nI k', iz, rn, bi, ac, pt, pc, de, oc, bA me, dn, sn, wn, df, nA ow, nA le, nA op, ar, bA wk, ld, rs, lq', il', pn, lo, rf, po, wd, st, ou, va)) : wpX_markLive post (nI mm, nI ms, nI mc, nI nm, nI M, nI S, lk, es, nI k, iz, rn, bi, ac, pt, pc, de, oc, bA me, dn, sn, wn, df, nA ow, nA le, nA op, ar, bA wk, ld, rs, lq, il, pn, lo, rf, po, wd, st, ou, va) (nI s) := by
  have hin : vp_in (nI s) 12 := vp_in_nI (by omega) (by omega)
  have c0 := nI_clamp (n := s) (by omega)
  have I0 := I
  obtain ⟨i1, i2, i3, i4, i5⟩ := I
  cases hb : b s with
  | true =>
    refine ⟨hin, br_f (by rw [c0, i1 s hs, hb]; decide) ?_⟩
    exact hp b q k lq il I0 (xc_rfl _ _ _) hb
  | false =>
    have hk : k < S := by rw [i3]; exact cb_ltn (bo_c hb) hs
    refine ⟨hin, br_t (by rw [c0, i1 s hs, hb]; rfl) ⟨hin, nm_e ⟨vp_in_nI (by omega) (by omega), nm_e (nm_r (nI_1 k) ?_)⟩⟩⟩
    rw [c0, nI_clamp (n := k) (by omega)]
    refine hp (ub b s true) (fun j => if j = k then s else q j) (k + 1) _ _ ⟨?_, ?_, ?_, ?_, ?_⟩ ⟨by omega, ?_, ?_⟩ (ub_s _ _ _)
    · intro t ht
      by_cases e : t = s
      · subst e
        rw [pk_us, ub_s]
        rfl
      · rw [pk_un e, ub_n e]
        exact i1 t ht
    · intro t ht
      by_cases e : t = s
      · rw [e]
        exact ⟨hs, hv⟩
      · rw [ub_n e] at ht
        exact i2 t ht
    · rw [cb_add hb hs, i3]
    · intro j hj
      by_cases e : j = k
      · subst e
        show upd _ _ _ _ = nI (if j = j then s else q j) ∧ ub b s true (if j = j then s else q j) = true
        rw [pk_us, if_pos rfl]
        exact ⟨rfl, ub_s _ _ _⟩
      · show upd _ _ _ _ = nI (if j = k then s else q j) ∧ ub b s true (if j = k then s else q j) = true
        rw [pk_un e, if_neg e]
        obtain ⟨j1, j2⟩ := i4 j (by omega)
        refine ⟨j1, ?_⟩
        rw [ub_n (fun z => by rw [z, hb] at j2; cases j2)]
        exact j2
    · intro t ht
      by_cases e : t = s
      · exact ⟨k, by omega, (if_pos rfl : (if k = k then s else q k) = s).trans e.symm⟩
      · rw [ub_n e] at ht
        obtain ⟨j, j1, j2⟩ := i5 t ht
        exact ⟨j, by omega, (if_neg (by omega) : (if j = k then s else q j) = q j).trans j2⟩
    · intro j hj
      exact if_neg (by omega)
    · intro t ht
      by_cases e : t = s
      · rw [e]; exact ub_s _ _ _
      · rw [ub_n e]; exact ht
theorem xx_scan1 {post : Int32 → SX → Prop} {tg : Nat → Option Nat} {e0 k s : Nat} {b : Nat → Bool} {q : Nat → Nat} (hS : S ≤ 12) (hnm : nm ≤ 16) (hce : ce_ok nm S le op ar) (hr : ∀ n, n < nm → rs n = oI (tg n)) (hcx : ∀ c x, pd_ct op ar tg c = some x → x / 16 < S) (hs : s < S) (hv : pf_lv le (pd_ct op ar tg) e0 s) (p0 : pf_bad le op (pd_ct op ar tg) wk (pf_lv le (pd_ct op ar tg) e0) → ∀ lc' lq' il', post 0 (nI mm, nI ms, nI mc, nI nm, nI M, nI S, lk, es, lc', iz, rn, bi, ac, pt, pc, de, oc, bA me, dn, sn, wn, df, nA ow, nA le, nA op, ar, bA wk, ld, rs, lq', il', pn, lo, rf, po, wd, st, ou, va)) (p1 : ∀ b' q' k' lq' il', xc_inv S le (pd_ct op ar tg) e0 b' q' k' lq' il' → xc_ext b q k b' q' k' → xc_cl le (pd_ct op ar tg) b' s (le s) → xc_gd op wk (pd_ct op ar tg) s (le s) → post 1 (nI mm, nI ms, nI mc, nI nm, nI M, nI S, lk, es, nI k', iz, rn, bi, ac, pt, pc, de, oc, bA me, dn, sn, wn, df, nA ow, nA le, nA op, ar, bA wk, ld, rs, lq', il', pn, lo, rf, po, wd, st, ou, va)) : ∀ d i b1 q1 k1 lq1 il1, i + d = le s → xc_inv S le (pd_ct op ar tg) e0 b1 q1 k1 lq1 il1 → xc_ext b q k b1 q1 k1 → xc_cl le (pd_ct op ar tg) b1 s i → xc_gd op wk (pd_ct op ar tg) s i → wX_scan_2 post (nI s) (d + 1) (nI i) (nI mm) (nI ms) (nI mc) (nI nm) (nI M) (nI S) lk es (nI k1) iz rn bi ac pt pc de oc (bA me) dn sn wn df (nA ow) (nA le) (nA op) ar (bA wk) ld rs lq1 il1 pn lo rf po wd st ou va := by
  have l := hce.1 s
  have hin : vp_in (nI s) 12 := vp_in_nI (by omega) (by omega)
  have e1 : nA le (nI s).toNatClampNeg = nI (le s) := by rw [nI_clamp (by omega)]; rfl
  intro d
  induction d with
  | zero =>
    intro i b1 q1 k1 lq1 il1 hi I E C G
    obtain rfl : i = le s := by omega
    refine ⟨hin, br_t (by rw [e1]; exact nI_le (Nat.le_refl _) (by omega)) ?_⟩
    exact p1 b1 q1 k1 lq1 il1 I E C G
  | succ d ih =>
    intro i b1 q1 k1 lq1 il1 hi I E C G
    have h1 : ¬ nA le (nI s).toNatClampNeg ≤ nI i := by rw [e1]; exact nI_ge (by omega) (by omega)
    have e2 : nI s * 16 + nI i = nI (s * 16 + i) := by rw [li_m16, nI_add]
    have o13 := hce.2.2.1 (s * 16 + i)
    have dv := pf_dv s i (by omega)
    have hin2 : vp_in (nI (s * 16 + i)) 192 := vp_in_nI (by omega) (by omega)
    have c2 := nI_clamp (n := s * 16 + i) (by omega)
    have e4 : nA op (nI (s * 16 + i)).toNatClampNeg = nI (op (s * 16 + i)) := by rw [c2]; rfl
    have e5 : bA wk (nI (s * 16 + i)).toNatClampNeg = bI (wk (s * 16 + i)) := by rw [c2]; rfl
    refine ⟨hin, br_f h1 (nm_r e2 (xx_target (tg := tg) (by omega) hnm o13 (hce.2.2.2 _) hr ?_))⟩
    cases hc : pd_ct op ar tg (s * 16 + i) with
    | none =>
      refine br_t (by decide) ⟨hin2, ?_⟩
      have go : (¬ (7 ≤ op (s * 16 + i) ∧ wk (s * 16 + i) = false ∧ pd_ct op ar tg (s * 16 + i) = none)) → wX_scan_2 post (nI s) (d + 1) (nI (i + 1)) (nI mm) (nI ms) (nI mc) (nI nm) (nI M) (nI S) lk es (nI k1) iz rn bi ac pt pc de oc (bA me) dn sn wn df (nA ow) (nA le) (nA op) ar (bA wk) ld rs lq1 il1 pn lo rf po wd st ou va := by
        intro z
        refine ih (i + 1) b1 q1 k1 lq1 il1 (by omega) I E ?_ (all_s G z)
        intro o x ho hx
        rcases Nat.lt_or_ge o i with y | y
        · exact C o x y hx
        · have : o = i := by omega
          rw [this, hc] at hx
          cases hx
      by_cases h7 : op (s * 16 + i) < 7
      · exact br_t (by rw [e4, li_lt7 (by omega)]; exact h7) (nm_r (nI_1 i) (go (fun z => by omega)))
      · refine br_f (by rw [e4, li_lt7 (by omega)]; exact h7) ⟨hin2, ?_⟩
        cases hw : wk (s * 16 + i) with
        | true => exact br_f (by rw [e5, hw]; decide) (nm_r (nI_1 i) (go (fun z => by rw [z.2.1] at hw; cases hw)))
        | false =>
          refine br_t (by rw [e5, hw]; rfl) (p0 ⟨s * 16 + i, ?_, ?_, by omega, hw, hc⟩ _ _ _)
          · rw [dv.1]; exact hv
          · rw [dv.1, dv.2]; omega
    | some x =>
      have hx := hcx _ x hc
      have e6 : oI (some x) >>> ((4 : Int32) &&& 31) = nI (x / 16) := by rw [oi_s]; exact li_sh (by omega)
      refine br_f (by rw [oi_s]; exact nI_pos (by omega)) ?_
      rw [e6]
      have hvx : pf_lv le (pd_ct op ar tg) e0 (x / 16) := pf_lc (s * 16 + i) x (by rw [dv.1]; exact hv) (by rw [dv.1, dv.2]; omega) hc
      refine xx_mark hS hx hvx I ?_
      intro b2 q2 k2 lq2 il2 I2 E2 m2
      refine nm_r (nI_1 i) (ih (i + 1) b2 q2 k2 lq2 il2 (by omega) I2 (xc_trans E E2) ?_ (all_s G (fun z => by rw [z.2.2] at hc; cases hc)))
      intro o y ho hy
      rcases Nat.lt_or_ge o i with w | w
      · exact E2.2.2 _ (C o y w hy)
      · have : o = i := by omega
        rw [this, hc] at hy
        cases hy
        exact m2
theorem xx_coll1 {post : Int32 → SX → Prop} {tg : Nat → Option Nat} {e0 : Nat} (hS : S ≤ 12) (hnm : nm ≤ 16) (hce : ce_ok nm S le op ar) (hr : ∀ n, n < nm → rs n = oI (tg n)) (hcx : ∀ c x, pd_ct op ar tg c = some x → x / 16 < S) (p0 : pf_bad le op (pd_ct op ar tg) wk (pf_lv le (pd_ct op ar tg) e0) → ∀ lc' lq' il', post 0 (nI mm, nI ms, nI mc, nI nm, nI M, nI S, lk, es, lc', iz, rn, bi, ac, pt, pc, de, oc, bA me, dn, sn, wn, df, nA ow, nA le, nA op, ar, bA wk, ld, rs, lq', il', pn, lo, rf, po, wd, st, ou, va)) (p1 : ∀ b q k lq' il', xc_inv S le (pd_ct op ar tg) e0 b q k lq' il' → (∀ s, b s = true ↔ pf_lv le (pd_ct op ar tg) e0 s) → ¬ pf_bad le op (pd_ct op ar tg) wk (pf_lv le (pd_ct op ar tg) e0) → post 1 (nI mm, nI ms, nI mc, nI nm, nI M, nI S, lk, es, nI k, iz, rn, bi, ac, pt, pc, de, oc, bA me, dn, sn, wn, df, nA ow, nA le, nA op, ar, bA wk, ld, rs, lq', il', pn, lo, rf, po, wd, st, ou, va)) : ∀ d i b q k lq1 il1, i + d = 12 → xc_inv S le (pd_ct op ar tg) e0 b q k lq1 il1 → b e0 = true → (∀ j, j < i → j < k → xc_cl le (pd_ct op ar tg) b (q j) (le (q j)) ∧ xc_gd op wk (pd_ct op ar tg) (q j) (le (q j))) → wX_collect_47 post (d + 1) (nI i) (nI mm) (nI ms) (nI mc) (nI nm) (nI M) (nI S) lk es (nI k) iz rn bi ac pt pc de oc (bA me) dn sn wn df (nA ow) (nA le) (nA op) ar (bA wk) ld rs lq1 il1 pn lo rf po wd st ou va := by
  intro d
  induction d with
  | zero =>
    intro i b q k lq1 il1 hi I he C
    obtain rfl : i = 12 := by omega
    have hk : k ≤ S := by rw [I.2.2.1]; exact cb_le _ _
    refine br_t (nI_le (by omega) (by omega)) ?_
    have hb : ∀ s, b s = true ↔ pf_lv le (pd_ct op ar tg) e0 s := by
      intro s
      refine ⟨fun h => (I.2.1 s h).2, fun h => h (fun s => b s = true) he ?_⟩
      intro c x h1 h2 h3
      obtain ⟨j, j1, j2⟩ := I.2.2.2.2 _ h1
      have := (C j (by omega) j1).1 (c % 16) x (by rw [j2]; exact h2)
      rw [j2, pf_sp] at this
      exact this h3
    refine p1 b q k lq1 il1 I hb ?_
    rintro ⟨c, c1, c2, c3, c4, c5⟩
    obtain ⟨j, j1, j2⟩ := I.2.2.2.2 _ ((hb _).mpr c1)
    have := (C j (by omega) j1).2 (c % 16) (by rw [j2]; exact c2)
    rw [j2, pf_sp] at this
    exact this ⟨c3, c4, c5⟩
  | succ d ih =>
    intro i b q k lq1 il1 hi I he C
    have hk : k ≤ S := by rw [I.2.2.1]; exact cb_le _ _
    by_cases hki : k ≤ i
    · refine br_t (nI_le hki (by omega)) ?_
      have hb : ∀ s, b s = true ↔ pf_lv le (pd_ct op ar tg) e0 s := by
        intro s
        refine ⟨fun h => (I.2.1 s h).2, fun h => h (fun s => b s = true) he ?_⟩
        intro c x h1 h2 h3
        obtain ⟨j, j1, j2⟩ := I.2.2.2.2 _ h1
        have := (C j (by omega) j1).1 (c % 16) x (by rw [j2]; exact h2)
        rw [j2, pf_sp] at this
        exact this h3
      refine p1 b q k lq1 il1 I hb ?_
      rintro ⟨c, c1, c2, c3, c4, c5⟩
      obtain ⟨j, j1, j2⟩ := I.2.2.2.2 _ ((hb _).mpr c1)
      have := (C j (by omega) j1).2 (c % 16) (by rw [j2]; exact c2)
      rw [j2, pf_sp] at this
      exact this ⟨c3, c4, c5⟩
    · obtain ⟨a1, a2⟩ := I.2.2.2.1 i (by omega)
      obtain ⟨a3, a4⟩ := I.2.1 _ a2
      refine br_f (nI_ge (by omega) (by omega)) (br_f (nI_ge (b := 12) (by omega) (by decide)) ⟨vp_in_nI (by omega) (by omega), ?_⟩)
      rw [nI_clamp (by omega), a1]
      refine ⟨le (q i) + 1, xx_scan1 (tg := tg) (e0 := e0) (b := b) (q := q) (k := k) hS hnm hce hr hcx a3 a4 ?_ ?_ (le (q i)) 0 b q k lq1 il1 (by omega) I (xc_rfl _ _ _) (fun o x h => absurd h (Nat.not_lt_zero o)) (fun o h => absurd h (Nat.not_lt_zero o))⟩
      · intro hbad lc' lq' il'
        exact br_t rfl (p0 hbad lc' lq' il')
      · intro b2 q2 k2 lq2 il2 I2 E2 C2 G2
        refine br_f (by decide) (nm_r (nI_1 i) (ih (i + 1) b2 q2 k2 lq2 il2 (by omega) I2 (E2.2.2 _ he) ?_))
        intro j hj hjk
        rcases Nat.lt_or_ge j i with w | w
        · rw [E2.2.1 j (by omega)]
          obtain ⟨y1, y2⟩ := C j w (by omega)
          exact ⟨fun o x ho hx => E2.2.2 _ (y1 o x ho hx), y2⟩
        · have e : j = i := by omega
          subst e
          rw [E2.2.1 j (by omega)]
          exact ⟨C2, G2⟩
theorem xx_coll {post : Int32 → SX → Prop} {tg : Nat → Option Nat} {t0 : Nat} (hS : S ≤ 12) (hnm : nm ≤ 16) (hce : ce_ok nm S le op ar) (hr : ∀ n, n < nm → rs n = oI (tg n)) (hcx : ∀ c x, pd_ct op ar tg c = some x → x / 16 < S) (ht : t0 / 16 < S) (p0 : pf_bad le op (pd_ct op ar tg) wk (pf_lv le (pd_ct op ar tg) (t0 / 16)) → ∀ lc lq il pn, post 0 (nI mm, nI ms, nI mc, nI nm, nI M, nI S, lk, nI t0, lc, iz, rn, bi, ac, pt, pc, de, oc, bA me, dn, sn, wn, df, nA ow, nA le, nA op, ar, bA wk, ld, rs, lq, il, pn, lo, rf, po, wd, st, ou, va)) (p1 : ∀ b q k lq il pn, xc_inv S le (pd_ct op ar tg) (t0 / 16) b q k lq il → (∀ s, s < S → pn s = 0) → (∀ s, b s = true ↔ pf_lv le (pd_ct op ar tg) (t0 / 16) s) → ¬ pf_bad le op (pd_ct op ar tg) wk (pf_lv le (pd_ct op ar tg) (t0 / 16)) → post 1 (nI mm, nI ms, nI mc, nI nm, nI M, nI S, lk, nI t0, nI k, iz, rn, bi, ac, pt, pc, de, oc, bA me, dn, sn, wn, df, nA ow, nA le, nA op, ar, bA wk, ld, rs, lq, il, pn, lo, rf, po, wd, st, ou, va)) : wpX_collect post (nI mm, nI ms, nI mc, nI nm, nI M, nI S, lk, nI t0, lc, iz, rn, bi, ac, pt, pc, de, oc, bA me, dn, sn, wn, df, nA ow, nA le, nA op, ar, bA wk, ld, rs, lq, il, pn, lo, rf, po, wd, st, ou, va) := by
  have key : ∀ d i il pn, i + d = S → (∀ s, s < i → il s = 0 ∧ pn s = 0) → wX_collect_7 post (nI mm) (nI ms) (nI mc) (nI nm) (nI M) (nI S) lk (nI t0) 0 iz rn bi ac pt pc de oc (d + 1) (nI i) (bA me) dn sn wn df (nA ow) (nA le) (nA op) ar (bA wk) ld rs lq il pn lo rf po wd st ou va := by
    intro d
    induction d with
    | zero =>
      intro i il pn hi h
      obtain rfl : i = S := by omega
      have e6 : nI t0 >>> ((4 : Int32) &&& 31) = nI (t0 / 16) := li_sh (by omega)
      refine br_t (nI_le (Nat.le_refl _) (by omega)) ?_
      rw [e6]
      refine xx_mark (e0 := t0 / 16) (ct := pd_ct op ar tg) (k := 0) (b := fun _ => false) (q := fun _ => 0) hS ht pf_l0 ⟨fun s hs => (h s hs).1, fun s hs => absurd hs Bool.false_ne_true, ?_, fun j hj => absurd hj (Nat.not_lt_zero j), fun s hs => absurd hs Bool.false_ne_true⟩ ?_
      · have : ∀ n, cb (fun _ => false) n = 0 := by
          intro n
          induction n with
          | zero => rfl
          | succ n ih => simp [cb, ih]
        exact (this i).symm
      · intro b q k lq il I E m
        exact ⟨13, xx_coll1 (tg := tg) (e0 := t0 / 16) hS hnm hce hr hcx (fun hb lc lq il => p0 hb lc lq il pn) (fun b q k lq il I hb hn => p1 b q k lq il pn I (fun s hs => (h s hs).2) hb hn) 12 0 b q k lq il (by omega) I m (fun j hj => absurd hj (Nat.not_lt_zero j))⟩
    | succ d ih =>
      intro i il pn hi h
      have h1 : ¬ nI S ≤ nI i := nI_ge (by omega) (by omega)
      have hin : vp_in (nI i) 12 := vp_in_nI (by omega) (by omega)
      have c0 := nI_clamp (n := i) (by omega)
      refine br_f h1 ⟨hin, nm_e ⟨hin, nm_e (nm_r (nI_1 i) ?_)⟩⟩
      refine ih (i + 1) _ _ (by omega) ?_
      rw [c0]
      refine all_s (fun s hs => ?_) ⟨pk_us, pk_us⟩
      rw [pk_un (by omega), pk_un (by omega)]
      exact h s hs
  exact ⟨S + 1, key S 0 il pn (by omega) (fun m hm => absurd hm (Nat.not_lt_zero m))⟩
def xp_at (op : Nat → Nat) (ct : Nat → Option Nat) (a o s : Nat) : Prop := (op (a * 16 + o) = 11 ∨ op (a * 16 + o) = 13) ∧ ∃ x, ct (a * 16 + o) = some x ∧ x / 16 = s
theorem xx_pin1 {post : SX → Prop} {J : Int32 → (Nat → Int32) → (Nat → Int32) → (Nat → Int32) → (Nat → Int32) → (Nat → Int32) → (Nat → Int32) → (Nat → Int32) → (Nat → Int32) → (Nat → Int32) → (Nat → Int32) → (Nat → Int32) → (Nat → Int32) → (Nat → Int32) → (Nat → Int32) → (Nat → Int32) → (Nat → Int32) → (Nat → Int32) → (Nat → Int32) → (Nat → Int64) → (Nat → Int32) → (Nat → Int32) → (Nat → Int32) → Prop} {tg : Nat → Option Nat} {a i : Nat} {Q : Nat → Prop} (hS : S ≤ 12) (hnm : nm ≤ 16) (hce : ce_ok nm S le op ar) (hr : ∀ n, n < nm → rs n = oI (tg n)) (hcx : ∀ c x, pd_ct op ar tg c = some x → x / 16 < S) (ha : a < S) (hi : i < 12) (hp : ∀ pn', (∀ s, s < S → (pn' s = 0 ↔ ¬ (Q s ∨ ∃ o, o < le a ∧ xp_at op (pd_ct op ar tg) a o s))) → J (nI (i + 1)) (bA me) dn sn wn df (nA ow) (nA le) (nA op) ar (bA wk) ld rs lq il pn' lo rf po wd st ou va) : ∀ d o pn1, o + d = le a → (∀ s, s < S → (pn1 s = 0 ↔ ¬ (Q s ∨ ∃ o', o' < o ∧ xp_at op (pd_ct op ar tg) a o' s))) → wX_pin_19 post J (nI i) (nI a) (nI mm) (nI ms) (nI mc) (nI nm) (nI M) (nI S) lk es lc iz rn bi ac pt pc de oc (d + 1) (nI o) (bA me) dn sn wn df (nA ow) (nA le) (nA op) ar (bA wk) ld rs lq il pn1 lo rf po wd st ou va := by
  have l := hce.1 a
  have hin : vp_in (nI a) 12 := vp_in_nI (by omega) (by omega)
  have e1 : nA le (nI a).toNatClampNeg = nI (le a) := by rw [nI_clamp (by omega)]; rfl
  intro d
  induction d with
  | zero =>
    intro o pn1 ho h
    obtain rfl : o = le a := by omega
    exact ⟨hin, br_t (by rw [e1]; exact nI_le (Nat.le_refl _) (by omega)) (nm_r (nI_1 i) (hp pn1 h))⟩
  | succ d ih =>
    intro o pn1 ho h
    have h1 : ¬ nA le (nI a).toNatClampNeg ≤ nI o := by rw [e1]; exact nI_ge (by omega) (by omega)
    have e2 : nI a * 16 + nI o = nI (a * 16 + o) := by rw [li_m16, nI_add]
    have o13 := hce.2.2.1 (a * 16 + o)
    have hin2 : vp_in (nI (a * 16 + o)) 192 := vp_in_nI (by omega) (by omega)
    have c2 := nI_clamp (n := a * 16 + o) (by omega)
    have e4 : nA op (nI (a * 16 + o)).toNatClampNeg = nI (op (a * 16 + o)) := by rw [c2]; rfl
    have go : (∀ s, ¬ xp_at op (pd_ct op ar tg) a o s) → wX_pin_19 post J (nI i) (nI a) (nI mm) (nI ms) (nI mc) (nI nm) (nI M) (nI S) lk es lc iz rn bi ac pt pc de oc (d + 1) (nI (o + 1)) (bA me) dn sn wn df (nA ow) (nA le) (nA op) ar (bA wk) ld rs lq il pn1 lo rf po wd st ou va := by
      intro z
      refine ih (o + 1) pn1 (by omega) ?_
      intro s hs
      rw [ex_n (P := fun o' => xp_at op (pd_ct op ar tg) a o' s) (z s)]
      exact h s hs
    refine ⟨hin, br_f h1 (nm_r e2 (xx_target (tg := tg) (by omega) hnm o13 (hce.2.2.2 _) hr ?_))⟩
    cases hc : pd_ct op ar tg (a * 16 + o) with
    | none =>
      refine br_t (by decide) (nm_r (nI_1 o) (go ?_))
      rintro s ⟨_, x, hx, _⟩
      rw [hc] at hx
      cases hx
    | some x =>
      have hx := hcx _ x hc
      have e6 : oI (some x) >>> ((4 : Int32) &&& 31) = nI (x / 16) := by rw [oi_s]; exact li_sh (by omega)
      have J74 : (op (a * 16 + o) = 11 ∨ op (a * 16 + o) = 13) → wX_pin_74 post J (wX_pin_19 post J (nI i) (nI a) (nI mm) (nI ms) (nI mc) (nI nm) (nI M) (nI S) lk es lc iz rn bi ac pt pc de oc (d + 1)) (nI i) (nI a) (nI o) (oI (some x)) (nI mm) (nI ms) (nI mc) (nI nm) (nI M) (nI S) lk es lc iz rn bi ac pt pc de oc (bA me) dn sn wn df (nA ow) (nA le) (nA op) ar (bA wk) ld rs lq il pn1 lo rf po wd st ou va := by
        intro hop
        unfold wX_pin_74
        rw [e6]
        refine ⟨vp_in_nI (by omega) (by omega), nm_e (nm_r (nI_1 o) (ih (o + 1) _ (by omega) ?_))⟩
        rw [nI_clamp (by omega)]
        intro s hs
        rw [ex_s]
        by_cases e : s = x / 16
        · rw [e, pk_us]
          refine ⟨fun z => absurd z (by decide), fun z => absurd (Or.inr (Or.inr ⟨hop, x, hc, rfl⟩)) z⟩
        · rw [pk_un e, h s hs]
          have : ¬ xp_at op (pd_ct op ar tg) a o s := by
            rintro ⟨_, y, hy, hy2⟩
            rw [hc] at hy
            cases hy
            exact e hy2.symm
          refine not_congr (or_congr Iff.rfl ?_)
          exact ⟨Or.inl, fun z => z.elim id (fun w => absurd w this)⟩
      refine br_f (by rw [oi_s]; exact nI_pos (by omega)) ⟨hin2, ?_⟩
      by_cases h11 : op (a * 16 + o) = 11
      · exact br_t (by rw [e4, h11]; rfl) (J74 (Or.inl h11))
      · refine br_f (by rw [e4, li_eq11 (by omega)]; exact h11) ⟨hin2, ?_⟩
        by_cases h13 : op (a * 16 + o) = 13
        · exact br_t (by rw [e4, h13]; rfl) (J74 (Or.inr h13))
        · refine br_f (by rw [e4, li_eq13 (by omega)]; exact h13) (nm_r (nI_1 o) (go ?_))
          rintro s ⟨z | z, _⟩
          · exact h11 z
          · exact h13 z
theorem xx_pin {post : SX → Prop} {tg : Nat → Option Nat} {k : Nat} {q : Nat → Nat} {lv : Nat → Prop} (hS : S ≤ 12) (hnm : nm ≤ 16) (hce : ce_ok nm S le op ar) (hr : ∀ n, n < nm → rs n = oI (tg n)) (hcx : ∀ c x, pd_ct op ar tg c = some x → x / 16 < S) (hk : k ≤ 12) (hq : ∀ j, j < k → lq j = nI (q j) ∧ q j < S) (hlv : ∀ s, lv s ↔ ∃ j, j < k ∧ q j = s) (h0 : ∀ s, s < S → pn s = 0) (hp : ∀ pn, (∀ s, s < S → (pn s = 0 ↔ ¬ pf_pn le op (pd_ct op ar tg) lv s)) → post (nI mm, nI ms, nI mc, nI nm, nI M, nI S, lk, es, nI k, iz, rn, bi, ac, pt, pc, de, oc, bA me, dn, sn, wn, df, nA ow, nA le, nA op, ar, bA wk, ld, rs, lq, il, pn, lo, rf, po, wd, st, ou, va)) : wpX_pin post (nI mm, nI ms, nI mc, nI nm, nI M, nI S, lk, es, nI k, iz, rn, bi, ac, pt, pc, de, oc, bA me, dn, sn, wn, df, nA ow, nA le, nA op, ar, bA wk, ld, rs, lq, il, pn, lo, rf, po, wd, st, ou, va) := by
  have key : ∀ d i pn, i + d = k → (∀ s, s < S → (pn s = 0 ↔ ¬ ∃ j, j < i ∧ ∃ o, o < le (q j) ∧ xp_at op (pd_ct op ar tg) (q j) o s)) → wX_pin_2 post (nI mm) (nI ms) (nI mc) (nI nm) (nI M) (nI S) lk es (nI k) iz rn bi ac pt pc de oc (d + 1) (nI i) (bA me) dn sn wn df (nA ow) (nA le) (nA op) ar (bA wk) ld rs lq il pn lo rf po wd st ou va := by
    intro d
    induction d with
    | zero =>
      intro i pn hi h
      obtain rfl : i = k := by omega
      refine br_t (nI_le (Nat.le_refl _) (by omega)) (hp pn ?_)
      intro s hs
      rw [h s hs]
      refine not_congr ?_
      constructor
      · rintro ⟨j, j1, o, o1, h1, x, h2, h3⟩
        have l := hce.1 (q j)
        have dv := pf_dv (q j) o (by omega)
        exact ⟨q j * 16 + o, x, (hlv _).mpr ⟨j, j1, dv.1.symm⟩, by rw [dv.1, dv.2]; exact o1, h1, h2, h3⟩
      · rintro ⟨c, x, c1, c2, c3, c4, c5⟩
        obtain ⟨j, j1, j2⟩ := (hlv _).mp c1
        refine ⟨j, j1, c % 16, by rw [j2]; exact c2, ?_⟩
        unfold xp_at
        rw [j2, pf_sp]
        exact ⟨c3, x, c4, c5⟩
    | succ d ih =>
      intro i pn hi h
      have h1 : ¬ nI k ≤ nI i := nI_ge (by omega) (by omega)
      obtain ⟨q1, q2⟩ := hq i (by omega)
      refine br_f h1 ⟨vp_in_nI (by omega) (by omega), nm_r (e' := nI (q i)) (by rw [nI_clamp (by omega)]; exact q1) ⟨le (q i) + 1, ?_⟩⟩
      refine xx_pin1 (tg := tg) (Q := fun s => ∃ j, j < i ∧ ∃ o, o < le (q j) ∧ xp_at op (pd_ct op ar tg) (q j) o s) hS hnm hce hr hcx q2 (by omega) ?_ (le (q i)) 0 pn (by omega) ?_
      · intro pn' h'
        refine ih (i + 1) pn' (by omega) ?_
        intro s hs
        rw [h' s hs, ex_s]
      · intro s hs
        rw [h s hs]
        refine not_congr ⟨Or.inl, fun z => z.elim id ?_⟩
        rintro ⟨o, ho, _⟩
        omega
  refine ⟨k + 1, key k 0 pn (by omega) ?_⟩
  intro s hs
  refine ⟨fun _ z => ?_, fun _ => h0 s hs⟩
  obtain ⟨j, hj, _⟩ := z
  omega
end
end
section
/-! X: folding -/
theorem oi_inj {x y : Option Nat} (hx : ∀ p, x = some p → p < 2 ^ 31) (hy : ∀ p, y = some p → p < 2 ^ 31) : oI x = oI y ↔ x = y := by
  cases x with
  | none =>
    cases y with
    | none => exact ⟨fun _ => rfl, fun _ => rfl⟩
    | some q =>
      have := hy q rfl
      rw [oi_n, oi_s, li_na this]
      exact ⟨False.elim, fun z => by cases z⟩
  | some p =>
    have hp := hx p rfl
    cases y with
    | none =>
      rw [oi_n, oi_s, li_nb hp]
      exact ⟨False.elim, fun z => by cases z⟩
    | some q =>
      rw [oi_s, oi_s, nI_eq hp (hy q rfl)]
      exact ⟨fun z => by rw [z], fun z => by cases z; rfl⟩
section
variable {mm ms mc nm M S : Nat} {lk es lc iz rn bi ac pt pc de oc : Int32} {me wk : Nat → Bool} {ow le op : Nat → Nat} {dn sn wn df ar ld rs lq il pn lo rf po st ou va : Nat → Int32} {wd : Nat → Int64}
theorem xx_sc {post : SX → Prop} {lv pp : Nat → Prop} {cls : Nat → Option Nat} (hS : S ≤ 12) (hil : ∀ s, s < S → (il s = 0 ↔ ¬ lv s)) (hpn : ∀ s, s < S → (pn s = 0 ↔ ¬ pp s)) (hc : pf_s0 lv pp cls) (hp : ∀ lo, (∀ s, s < S → lo s = oI (cls s)) → post (nI mm, nI ms, nI mc, nI nm, nI M, nI S, lk, es, lc, iz, rn, bi, ac, pt, pc, de, oc, bA me, dn, sn, wn, df, nA ow, nA le, nA op, ar, bA wk, ld, rs, lq, il, pn, lo, rf, po, wd, st, ou, va)) : wpX_startClasses post (nI mm, nI ms, nI mc, nI nm, nI M, nI S, lk, es, lc, iz, rn, bi, ac, pt, pc, de, oc, bA me, dn, sn, wn, df, nA ow, nA le, nA op, ar, bA wk, ld, rs, lq, il, pn, lo, rf, po, wd, st, ou, va) := by
  have key : ∀ d i fo lo, i + d = S → ((fo = none ∧ ∀ j, j < i → lv j → pp j) ∨ ∃ f, fo = some f ∧ f < i ∧ lv f ∧ ¬ pp f ∧ ∀ j, j < f → lv j → pp j) → (∀ s, s < i → lo s = oI (cls s)) → wX_startClasses_4 post (nI mm) (nI ms) (nI mc) (nI nm) (nI M) (nI S) lk es lc iz rn bi ac pt pc de oc (d + 1) (oI fo) (nI i) (bA me) dn sn wn df (nA ow) (nA le) (nA op) ar (bA wk) ld rs lq il pn lo rf po wd st ou va := by
    intro d
    induction d with
    | zero =>
      intro i fo lo hi hf h
      obtain rfl : i = S := by omega
      exact br_t (nI_le (Nat.le_refl _) (by omega)) (hp lo h)
    | succ d ih =>
      intro i fo lo hi hf h
      have h1 : ¬ nI S ≤ nI i := nI_ge (by omega) (by omega)
      have hin : vp_in (nI i) 12 := vp_in_nI (by omega) (by omega)
      have c0 := nI_clamp (n := i) (by omega)
      have put : ∀ z, z = oI (cls i) → ∀ s, s < i + 1 → upd lo i z s = oI (cls s) := by
        intro z hz
        refine all_s (fun s hs => ?_) (by rw [pk_us, hz])
        rw [pk_un (by omega)]
        exact h s hs
      by_cases hl : lv i
      · refine br_f h1 ⟨hin, br_f (by rw [c0, hil i (by omega)]; exact fun z => z hl) ⟨hin, ?_⟩⟩
        by_cases hq : pp i
        · refine br_f (by rw [c0, hpn i (by omega)]; exact fun z => z hq) ⟨hin, nm_e (nm_r (nI_1 i) ?_)⟩
          rw [c0]
          refine ih (i + 1) fo _ (by omega) ?_ (put _ (by rw [(hc i).2.1 hl hq, oi_s]))
          rcases hf with ⟨f1, f2⟩ | ⟨f, f1, f2, f3⟩
          · exact Or.inl ⟨f1, all_s f2 (fun _ => hq)⟩
          · exact Or.inr ⟨f, f1, by omega, f3⟩
        · refine br_t (by rw [c0, hpn i (by omega)]; exact hq) ?_
          obtain ⟨g, g1, g2, g3, g4⟩ := (hc i).2.2 hl hq
          rcases hf with ⟨f1, f2⟩ | ⟨f, f1, f2, f3, f4, f5⟩
          · subst f1
            have hg : g = i := by
              rcases Nat.lt_trichotomy g i with z | z | z
              · exact absurd (f2 g z g2) g3
              · exact z
              · exact absurd (g4 i z hl) hq
            refine br_f (by decide) ⟨hin, nm_e (nm_r (nI_1 i) ?_)⟩
            rw [c0]
            exact ih (i + 1) (some i) _ (by omega) (Or.inr ⟨i, rfl, by omega, hl, hq, f2⟩) (put _ (by rw [g1, hg, oi_s]))
          · subst f1
            have hg : g = f := by
              rcases Nat.lt_trichotomy g f with z | z | z
              · exact absurd (f5 g z g2) g3
              · exact z
              · exact absurd (g4 f z f3) f4
            refine br_t (by rw [oi_s]; exact nI_pos' (by omega)) ⟨hin, nm_e (nm_r (nI_1 i) ?_)⟩
            rw [c0]
            exact ih (i + 1) (some f) _ (by omega) (Or.inr ⟨f, rfl, by omega, f3, f4, f5⟩) (put _ (by rw [g1, hg]))
      · refine br_f h1 ⟨hin, br_t (by rw [c0, hil i (by omega)]; exact hl) ⟨hin, nm_e (nm_r (nI_1 i) ?_)⟩⟩
        rw [c0]
        refine ih (i + 1) fo _ (by omega) ?_ (put _ (by rw [(hc i).1 hl, oi_n]))
        rcases hf with ⟨f1, f2⟩ | ⟨f, f1, f2, f3⟩
        · exact Or.inl ⟨f1, all_s f2 (fun z => absurd z hl)⟩
        · exact Or.inr ⟨f, f1, by omega, f3⟩
  exact ⟨S + 1, key S 0 none lo (by omega) (Or.inl ⟨rfl, fun j hj => absurd hj (Nat.not_lt_zero j)⟩) (fun j hj => absurd hj (Nat.not_lt_zero j))⟩
theorem xx_ca {post : Int32 → Prop} {tg cls : Nat → Option Nat} {a b : Nat} (hS : S ≤ 12) (hnm : nm ≤ 16) (hce : ce_ok nm S le op ar) (hr : ∀ n, n < nm → rs n = oI (tg n)) (hcx : ∀ c x, pd_ct op ar tg c = some x → x / 16 < S) (hlo : ∀ s, s < S → lo s = oI (cls s)) (hcb : ∀ s p, cls s = some p → p < 2 ^ 31) (ha : a < 192) (hb : b < 192) (p1 : pf_ca op ar (pd_ct op ar tg) (pf_rc cls) a b → post 1) (p0 : ¬ pf_ca op ar (pd_ct op ar tg) (pf_rc cls) a b → post 0) : wpX_cellsAlike post (nI mm, nI ms, nI mc, nI nm, nI M, nI S, lk, es, lc, iz, rn, bi, ac, pt, pc, de, oc, bA me, dn, sn, wn, df, nA ow, nA le, nA op, ar, bA wk, ld, rs, lq, il, pn, lo, rf, po, wd, st, ou, va) (nI a) (nI b) := by
  have ia : vp_in (nI a) 192 := vp_in_nI ha (by omega)
  have ib : vp_in (nI b) 192 := vp_in_nI hb (by omega)
  have ca := nI_clamp (n := a) (by omega)
  have cb := nI_clamp (n := b) (by omega)
  have oa := hce.2.2.1 a
  have ob := hce.2.2.1 b
  have ea : nA op (nI a).toNatClampNeg = nI (op a) := by rw [ca]; rfl
  have eb : nA op (nI b).toNatClampNeg = nI (op b) := by rw [cb]; rfl
  by_cases h1 : op a = op b
  · refine ⟨ia, ib, br_t (by rw [ea, eb, h1]) ⟨ia, ?_⟩⟩
    by_cases h7 : 7 ≤ op a
    · refine br_t (by rw [ea, li_el7 (by omega)]; exact h7) ?_
      refine xx_target (tg := tg) ha hnm oa (hce.2.2.2 _) hr ?_
      refine xx_target (tg := tg) hb hnm ob (hce.2.2.2 _) hr ?_
      cases hu : pd_ct op ar tg a with
      | none =>
        refine br_t (by decide) ?_
        cases hv : pd_ct op ar tg b with
        | none => exact br_t rfl (p1 ⟨h1, fun z => by omega, Or.inl ⟨hu, hv⟩⟩)
        | some v =>
          have hv' := hcx _ v hv
          refine br_f (by rw [oi_n, oi_s, li_na (by omega)]; exact id) (p0 ?_)
          rintro ⟨_, _, ⟨z, w⟩ | ⟨u', v', z, _⟩⟩
          · rw [hv] at w; cases w
          · rw [hu] at z; cases z
      | some u =>
        have hu' := hcx _ u hu
        refine br_f (by rw [oi_s]; exact nI_pos (by omega)) ?_
        cases hv : pd_ct op ar tg b with
        | none =>
          refine br_f (by decide) ?_
          refine br_f (by rw [oi_n, oi_s, li_nb (by omega)]; exact id) (p0 ?_)
          rintro ⟨_, _, ⟨z, w⟩ | ⟨u', v', z, w, _⟩⟩
          · rw [hu] at z; cases z
          · rw [hv] at w; cases w
        | some v =>
          have hv' := hcx _ v hv
          refine br_t (by rw [oi_s]; exact nI_pos' (by omega)) ?_
          have e1 : oI (some u) &&& 15 = nI (u % 16) := li_an (by omega)
          have e2 : oI (some v) &&& 15 = nI (v % 16) := li_an (by omega)
          have e3 : oI (some u) >>> ((4 : Int32) &&& 31) = nI (u / 16) := li_sh (by omega)
          have e4 : oI (some v) >>> ((4 : Int32) &&& 31) = nI (v / 16) := li_sh (by omega)
          rw [e1, e2, e3, e4, nI_eq (by omega) (by omega), nI_clamp (n := u / 16) (by omega), nI_clamp (n := v / 16) (by omega), hlo _ hu', hlo _ hv', oi_inj (hcb _) (hcb _)]
          by_cases z1 : u % 16 = v % 16
          · refine br_t z1 ⟨vp_in_nI (by omega) (by omega), vp_in_nI (by omega) (by omega), ?_⟩
            by_cases z2 : cls (u / 16) = cls (v / 16)
            · exact br_t z2 (p1 ⟨h1, fun z => by omega, Or.inr ⟨u, v, hu, hv, z1, z2⟩⟩)
            · refine br_f z2 (p0 ?_)
              rintro ⟨_, _, ⟨z, w⟩ | ⟨u', v', z, w, _, y⟩⟩
              · rw [hu] at z; cases z
              · rw [hu] at z; rw [hv] at w; cases z; cases w
                exact z2 y
          · refine br_f z1 (p0 ?_)
            rintro ⟨_, _, ⟨z, w⟩ | ⟨u', v', z, w, y, _⟩⟩
            · rw [hu] at z; cases z
            · rw [hu] at z; rw [hv] at w; cases z; cases w
              exact z1 y
    · refine br_f (by rw [ea, li_el7 (by omega)]; exact h7) ⟨ia, ib, ?_⟩
      rw [ca, cb]
      refine br_c (fun z => p1 ⟨h1, fun _ => z, Or.inl ⟨pd_ctp (by omega), pd_ctp (by omega)⟩⟩) (fun z => p0 ?_)
      rintro ⟨_, w, _⟩
      exact z (w (by omega))
  · refine ⟨ia, ib, br_f (by rw [ea, eb, nI_eq (by omega) (by omega)]; exact h1) (p0 ?_)⟩
    exact fun z => h1 z.1
theorem xx_al {post : Int32 → Prop} {tg cls : Nat → Option Nat} {s t : Nat} (hS : S ≤ 12) (hnm : nm ≤ 16) (hce : ce_ok nm S le op ar) (hr : ∀ n, n < nm → rs n = oI (tg n)) (hcx : ∀ c x, pd_ct op ar tg c = some x → x / 16 < S) (hlo : ∀ s, s < S → lo s = oI (cls s)) (hcb : ∀ s p, cls s = some p → p < 2 ^ 31) (hs : s < S) (ht : t < S) (p1 : pf_al le op ar (pd_ct op ar tg) (pf_rc cls) s t → post 1) (p0 : ¬ pf_al le op ar (pd_ct op ar tg) (pf_rc cls) s t → post 0) : wpX_alike post (nI mm, nI ms, nI mc, nI nm, nI M, nI S, lk, es, lc, iz, rn, bi, ac, pt, pc, de, oc, bA me, dn, sn, wn, df, nA ow, nA le, nA op, ar, bA wk, ld, rs, lq, il, pn, lo, rf, po, wd, st, ou, va) (nI s) (nI t) := by
  have is : vp_in (nI s) 12 := vp_in_nI (by omega) (by omega)
  have it : vp_in (nI t) 12 := vp_in_nI (by omega) (by omega)
  have ezs : nA le (nI s).toNatClampNeg = nI (le s) := by rw [nI_clamp (by omega)]; rfl
  have ezt : nA le (nI t).toNatClampNeg = nI (le t) := by rw [nI_clamp (by omega)]; rfl
  have ls := hce.1 s
  have lt := hce.1 t
  by_cases hl : le s = le t
  · have key : ∀ d i, i + d = le s → (∀ o, o < i → pf_ca op ar (pd_ct op ar tg) (pf_rc cls) (s * 16 + o) (t * 16 + o)) → wX_alike_19 post (nI s) (nI t) (nI mm) (nI ms) (nI mc) (nI nm) (nI M) (nI S) lk es lc iz rn bi ac pt pc de oc (bA me) dn sn wn df (nA ow) (nA le) (nA op) ar (bA wk) ld rs lq il pn lo rf po wd st ou va (d + 1) (nI i) := by
      intro d
      induction d with
      | zero =>
        intro i hi h
        obtain rfl : i = le s := by omega
        exact ⟨is, br_t (by rw [ezs]; exact nI_le (Nat.le_refl _) (by omega)) (p1 ⟨hl, h⟩)⟩
      | succ d ih =>
        intro i hi h
        have h1 : ¬ nA le (nI s).toNatClampNeg ≤ nI i := by rw [ezs]; exact nI_ge (by omega) (by omega)
        have e2 : nI s * 16 + nI i = nI (s * 16 + i) := by rw [li_m16, nI_add]
        have e3 : nI t * 16 + nI i = nI (t * 16 + i) := by rw [li_m16, nI_add]
        refine ⟨is, br_f h1 ?_⟩
        rw [e2, e3]
        refine xx_ca (tg := tg) (cls := cls) hS hnm hce hr hcx hlo hcb (by omega) (by omega) ?_ ?_
        · intro hc
          exact br_f (by decide) (nm_r (nI_1 i) (ih (i + 1) (by omega) (all_s h hc)))
        · intro hc
          exact br_t rfl (p0 (fun z => hc (z.2 i (by omega))))
    exact ⟨is, it, br_t (by rw [ezs, ezt, hl]) ⟨le s + 1, key (le s) 0 (by omega) (fun j hj => absurd hj (Nat.not_lt_zero j))⟩⟩
  · exact ⟨is, it, br_f (by rw [ezs, ezt, nI_eq (by omega) (by omega)]; exact hl) (p0 (fun z => hl z.1))⟩
theorem xx_low {post : Int32 → Prop} {tg cls : Nat → Option Nat} {s : Nat} (hS : S ≤ 12) (hnm : nm ≤ 16) (hce : ce_ok nm S le op ar) (hr : ∀ n, n < nm → rs n = oI (tg n)) (hcx : ∀ c x, pd_ct op ar tg c = some x → x / 16 < S) (hlo : ∀ s, s < S → lo s = oI (cls s)) (hcb : ∀ s p, cls s = some p → p < 2 ^ 31) (hs : s < S) (hp : ∀ q, q ≤ s → cls q = cls s → pf_al le op ar (pd_ct op ar tg) (pf_rc cls) q s → (∀ j, j < q → ¬ (cls j = cls s ∧ pf_al le op ar (pd_ct op ar tg) (pf_rc cls) j s)) → post (nI q)) : wpX_lowestAlike post (nI mm, nI ms, nI mc, nI nm, nI M, nI S, lk, es, lc, iz, rn, bi, ac, pt, pc, de, oc, bA me, dn, sn, wn, df, nA ow, nA le, nA op, ar, bA wk, ld, rs, lq, il, pn, lo, rf, po, wd, st, ou, va) (nI s) := by
  have key : ∀ d i, i + d = s → (∀ j, j < i → ¬ (cls j = cls s ∧ pf_al le op ar (pd_ct op ar tg) (pf_rc cls) j s)) → wX_lowestAlike_2 post (nI s) (nI mm) (nI ms) (nI mc) (nI nm) (nI M) (nI S) lk es lc iz rn bi ac pt pc de oc (bA me) dn sn wn df (nA ow) (nA le) (nA op) ar (bA wk) ld rs lq il pn lo rf po wd st ou va (d + 1) (nI i) := by
    intro d
    induction d with
    | zero =>
      intro i hi h
      obtain rfl : i = s := by omega
      exact br_t (nI_le (Nat.le_refl _) (by omega)) (hp i (Nat.le_refl _) rfl (pf_ar cls i) h)
    | succ d ih =>
      intro i hi h
      have h1 : ¬ nI s ≤ nI i := nI_ge (by omega) (by omega)
      refine br_f h1 ⟨vp_in_nI (by omega) (by omega), vp_in_nI (by omega) (by omega), ?_⟩
      rw [nI_clamp (n := i) (by omega), nI_clamp (n := s) (by omega), hlo i (by omega), hlo s hs, oi_inj (hcb _) (hcb _)]
      by_cases hc : cls i = cls s
      · refine br_t hc (xx_al (tg := tg) (cls := cls) hS hnm hce hr hcx hlo hcb (by omega) hs ?_ ?_)
        · intro ha
          exact br_f (by decide) (hp i (by omega) hc ha h)
        · intro ha
          exact br_t rfl (nm_r (nI_1 i) (ih (i + 1) (by omega) (all_s h (fun z => ha z.2))))
      · exact br_f hc (nm_r (nI_1 i) (ih (i + 1) (by omega) (all_s h (fun z => hc z.1))))
  exact ⟨s + 1, key s 0 (by omega) (fun j hj => absurd hj (Nat.not_lt_zero j))⟩
theorem xx_rf2 {post : Int32 → SX → Prop} {cls cls' : Nat → Option Nat} (hS : S ≤ 12) (hcb : ∀ s p, cls s = some p → p < 2 ^ 31) (hcb' : ∀ s p, cls' s = some p → p < 2 ^ 31) (hrf : ∀ s, s < S → rf s = oI (cls' s)) (hp : ∀ r lo', (r = 0 ∨ r = 1) → (∀ s, s < S → lo' s = oI (cls' s)) → (r = 0 ↔ ∀ s, s < S → cls' s = cls s) → post r (nI mm, nI ms, nI mc, nI nm, nI M, nI S, lk, es, lc, iz, rn, bi, ac, pt, pc, de, oc, bA me, dn, sn, wn, df, nA ow, nA le, nA op, ar, bA wk, ld, rs, lq, il, pn, lo', rf, po, wd, st, ou, va)) : ∀ d i r lo, i + d = S → (r = 0 ∨ r = 1) → (∀ s, s < S → lo s = oI (if s < i then cls' s else cls s)) → (r = 0 ↔ ∀ s, s < i → cls' s = cls s) → wX_refine_44 post (nI mm) (nI ms) (nI mc) (nI nm) (nI M) (nI S) lk es lc iz rn bi ac pt pc de oc (d + 1) r (nI i) (bA me) dn sn wn df (nA ow) (nA le) (nA op) ar (bA wk) ld rs lq il pn lo rf po wd st ou va := by
  intro d
  induction d with
  | zero =>
    intro i r lo hi hr hlo hc
    obtain rfl : i = S := by omega
    refine br_t (nI_le (Nat.le_refl _) (by omega)) ⟨?_, hp r lo hr (fun s hs => by rw [hlo s hs, if_pos hs]) hc⟩
    rcases hr with h | h
    · rw [h]; rfl
    · rw [h]; rfl
  | succ d ih =>
    intro i r lo hi hr hlo hc
    have h1 : ¬ nI S ≤ nI i := nI_ge (by omega) (by omega)
    have hin : vp_in (nI i) 12 := vp_in_nI (by omega) (by omega)
    have c0 := nI_clamp (n := i) (by omega)
    have e1 : lo i = oI (cls i) := by rw [hlo i (by omega), if_neg (by omega)]
    have put : ∀ s, s < S → upd lo i (rf i) s = oI (if s < i + 1 then cls' s else cls s) := by
      intro s hs
      by_cases e : s = i
      · rw [e, pk_us, if_pos (by omega), hrf i (by omega)]
      · rw [pk_un e, hlo s hs]
        by_cases z : s < i
        · rw [if_pos z, if_pos (by omega)]
        · rw [if_neg z, if_neg (by omega)]
    refine br_f h1 ⟨hin, hin, ?_⟩
    by_cases he : cls' i = cls i
    · refine br_t (by rw [c0, hrf i (by omega), e1, he]) ?_
      refine nm_e ⟨hin, hin, nm_e (nm_r (nI_1 i) ?_)⟩
      rw [c0]
      have e2 : r ||| 0 = r := by rcases hr with h | h <;> rw [h] <;> decide
      rw [e2]
      refine ih (i + 1) r _ (by omega) hr put ?_
      rw [hc]
      exact ⟨fun z => all_s z he, fun z s hs => z s (by omega)⟩
    · refine br_f (by rw [c0, hrf i (by omega), e1, oi_inj (hcb' _) (hcb _)]; exact he) ?_
      refine nm_e ⟨hin, hin, nm_e (nm_r (nI_1 i) ?_)⟩
      rw [c0]
      have e2 : r ||| 1 = 1 := by rcases hr with h | h <;> rw [h] <;> decide
      rw [e2]
      refine ih (i + 1) 1 _ (by omega) (Or.inr rfl) put ?_
      exact ⟨fun z => absurd z (by decide), fun z => absurd (z i (by omega)) he⟩
theorem xx_rf {post : Int32 → SX → Prop} {tg cls cls' : Nat → Option Nat} {lv : Nat → Prop} (hS : S ≤ 12) (hnm : nm ≤ 16) (hce : ce_ok nm S le op ar) (hr : ∀ n, n < nm → rs n = oI (tg n)) (hcx : ∀ c x, pd_ct op ar tg c = some x → x / 16 < S) (hil : ∀ s, s < S → (il s = 0 ↔ ¬ lv s)) (hlo : ∀ s, s < S → lo s = oI (cls s)) (hcb : ∀ s p, cls s = some p → p < 2 ^ 31) (hcb' : ∀ s p, cls' s = some p → p < 2 ^ 31) (hrf : pf_rf le op ar (pd_ct op ar tg) lv cls cls') (hp : ∀ r lo rf, (r = 0 ∨ r = 1) → (∀ s, s < S → lo s = oI (cls' s)) → (r = 0 ↔ ∀ s, s < S → cls' s = cls s) → post r (nI mm, nI ms, nI mc, nI nm, nI M, nI S, lk, es, lc, iz, rn, bi, ac, pt, pc, de, oc, bA me, dn, sn, wn, df, nA ow, nA le, nA op, ar, bA wk, ld, rs, lq, il, pn, lo, rf, po, wd, st, ou, va)) : wpX_refine post (nI mm, nI ms, nI mc, nI nm, nI M, nI S, lk, es, lc, iz, rn, bi, ac, pt, pc, de, oc, bA me, dn, sn, wn, df, nA ow, nA le, nA op, ar, bA wk, ld, rs, lq, il, pn, lo, rf, po, wd, st, ou, va) := by
  have key : ∀ d i rf, i + d = S → (∀ s, s < i → rf s = oI (cls' s)) → wX_refine_2 post (nI mm) (nI ms) (nI mc) (nI nm) (nI M) (nI S) lk es lc iz rn bi ac pt pc de oc (d + 1) (nI i) (bA me) dn sn wn df (nA ow) (nA le) (nA op) ar (bA wk) ld rs lq il pn lo rf po wd st ou va := by
    intro d
    induction d with
    | zero =>
      intro i rf hi h
      obtain rfl : i = S := by omega
      refine br_t (nI_le (Nat.le_refl _) (by omega)) ⟨i + 1, ?_⟩
      refine xx_rf2 (cls := cls) (cls' := cls') hS hcb hcb' h (fun r lo' h1 h2 h3 => hp r lo' rf h1 h2 h3) i 0 0 lo (by omega) (Or.inl rfl) ?_ ?_
      · intro s hs
        rw [hlo s hs, if_neg (Nat.not_lt_zero s)]
      · exact ⟨fun _ s hs => absurd hs (Nat.not_lt_zero s), fun _ => rfl⟩
    | succ d ih =>
      intro i rf hi h
      have h1 : ¬ nI S ≤ nI i := nI_ge (by omega) (by omega)
      have hin : vp_in (nI i) 12 := vp_in_nI (by omega) (by omega)
      have c0 := nI_clamp (n := i) (by omega)
      have put : ∀ z, z = oI (cls' i) → ∀ s, s < i + 1 → upd rf i z s = oI (cls' s) := by
        intro z hz
        refine all_s (fun s hs => ?_) (by rw [pk_us, hz])
        rw [pk_un (by omega)]
        exact h s hs
      by_cases hl : lv i
      · refine br_f h1 ⟨hin, br_f (by rw [c0, hil i (by omega)]; exact fun z => z hl) ?_⟩
        refine xx_low (tg := tg) (cls := cls) hS hnm hce hr hcx hlo hcb (by omega) ?_
        intro q q1 q2 q3 q4
        refine ⟨hin, nm_e (nm_r (nI_1 i) ?_)⟩
        rw [c0]
        refine ih (i + 1) _ (by omega) (put _ ?_)
        obtain ⟨w, w1, w2, w3, w4, w5⟩ := (hrf i).2 hl
        have : q = w := by
          rcases Nat.lt_trichotomy q w with z | z | z
          · exact absurd ⟨q2, q3⟩ (w5 q z)
          · exact z
          · exact absurd ⟨w3, w4⟩ (q4 w z)
        rw [w1, this, oi_s]
      · refine br_f h1 ⟨hin, br_t (by rw [c0, hil i (by omega)]; exact hl) ⟨hin, nm_e (nm_r (nI_1 i) ?_)⟩⟩
        rw [c0]
        exact ih (i + 1) _ (by omega) (put _ (by rw [(hrf i).1 hl, oi_n]))
  exact ⟨S + 1, key S 0 rf (by omega) (fun j hj => absurd hj (Nat.not_lt_zero j))⟩
end
theorem pf_rfx {le op : Nat → Nat} {ar : Nat → Int32} {ct : Nat → Option Nat} {lv : Nat → Prop} (cls : Nat → Option Nat) : ∃ cls', pf_rf le op ar ct lv cls cls' := by
  have : ∀ s, ∃ o : Option Nat, (¬ lv s → o = none) ∧ (lv s → ∃ q, o = some q ∧ q ≤ s ∧ cls q = cls s ∧ pf_al le op ar ct (pf_rc cls) q s ∧ ∀ j, j < q → ¬ (cls j = cls s ∧ pf_al le op ar ct (pf_rc cls) j s)) := by
    intro s
    by_cases h : lv s
    · obtain ⟨q, q1, q2⟩ := pk_least (fun q => cls q = cls s ∧ pf_al le op ar ct (pf_rc cls) q s) ⟨s, rfl, pf_ar cls s⟩
      refine ⟨some q, fun z => absurd h z, fun _ => ⟨q, rfl, ?_, q1.1, q1.2, q2⟩⟩
      exact Nat.le_of_not_lt (fun z => q2 s z ⟨rfl, pf_ar cls s⟩)
    · exact ⟨none, fun _ => rfl, fun z => absurd z h⟩
  exact ⟨fun s => Classical.choose (this s), fun s => Classical.choose_spec (this s)⟩
theorem pf_s0x (lv pn : Nat → Prop) : ∃ cls, pf_s0 lv pn cls := by
  have : ∀ s, ∃ o : Option Nat, (¬ lv s → o = none) ∧ (lv s → pn s → o = some s) ∧ (lv s → ¬ pn s → ∃ f, o = some f ∧ lv f ∧ ¬ pn f ∧ ∀ j, j < f → lv j → pn j) := by
    intro s
    by_cases h : lv s
    · by_cases g : pn s
      · exact ⟨some s, fun z => absurd h z, fun _ _ => rfl, fun _ z => absurd g z⟩
      · obtain ⟨f, f1, f2⟩ := pk_least (fun f => lv f ∧ ¬ pn f) ⟨s, h, g⟩
        exact ⟨some f, fun z => absurd h z, fun _ z => absurd z g, fun _ _ => ⟨f, rfl, f1.1, f1.2, fun j hj hl => Classical.byContradiction (fun z => f2 j hj ⟨hl, z⟩)⟩⟩
    · exact ⟨none, fun _ => rfl, fun z => absurd z h, fun z => absurd z h⟩
  exact ⟨fun s => Classical.choose (this s), fun s => Classical.choose_spec (this s)⟩
section
variable {mm ms mc nm M S : Nat} {lk es lc iz rn bi ac pt pc de oc : Int32} {me wk : Nat → Bool} {ow le op : Nat → Nat} {dn sn wn df ar ld rs lq il pn lo rf po st ou va : Nat → Int32} {wd : Nat → Int64}
theorem xx_fold {post : SX → Prop} {tg : Nat → Option Nat} {lv pp : Nat → Prop} {e0 : Nat} (hS : S ≤ 12) (hnm : nm ≤ 16) (hce : ce_ok nm S le op ar) (hr : ∀ n, n < nm → rs n = oI (tg n)) (hcx : ∀ c x, pd_ct op ar tg c = some x → x / 16 < S) (hil : ∀ s, s < S → (il s = 0 ↔ ¬ lv s)) (hpn : ∀ s, s < S → (pn s = 0 ↔ ¬ pp s)) (hlS : ∀ s, lv s → s < S) (hcl : pf_cl le (pd_ct op ar tg) lv) (he : lv e0) (hp : ∀ cls lo rf, pf_ok le op ar (pd_ct op ar tg) lv pp cls → pf_sb le op ar (pd_ct op ar tg) lv pp cls → (∀ s, s < S → lo s = oI (cls s)) → post (nI mm, nI ms, nI mc, nI nm, nI M, nI S, lk, es, lc, iz, rn, bi, ac, pt, pc, de, oc, bA me, dn, sn, wn, df, nA ow, nA le, nA op, ar, bA wk, ld, rs, lq, il, pn, lo, rf, po, wd, st, ou, va)) : wpX_fold post (nI mm, nI ms, nI mc, nI nm, nI M, nI S, lk, es, lc, iz, rn, bi, ac, pt, pc, de, oc, bA me, dn, sn, wn, df, nA ow, nA le, nA op, ar, bA wk, ld, rs, lq, il, pn, lo, rf, po, wd, st, ou, va) := by
  have hkb : ∀ cls, pf_ok le op ar (pd_ct op ar tg) lv pp cls → ∀ s p, cls s = some p → p < 2 ^ 31 := by
    intro cls hk s p h
    have h1 := (hk.2.1 s p h).1
    have h2 : lv s := Classical.byContradiction (fun z => by rw [(hk.1 s).mpr z] at h; cases h)
    have := hlS s h2
    omega
  have key : ∀ d i r cls lo rf, i + d = S → (r = 0 ∨ r = 1) → pf_ok le op ar (pd_ct op ar tg) lv pp cls → (∀ s, s < S → lo s = oI (cls s)) → (r = 0 → pf_sb le op ar (pd_ct op ar tg) lv pp cls) → (r = 1 → i < cb (pf_ld cls) S) → wX_fold_8 post (d + 1) r (nI i) (nI mm) (nI ms) (nI mc) (nI nm) (nI M) (nI S) lk es lc iz rn bi ac pt pc de oc (bA me) dn sn wn df (nA ow) (nA le) (nA op) ar (bA wk) ld rs lq il pn lo rf po wd st ou va := by
    intro d
    induction d with
    | zero =>
      intro i r cls lo rf hi hr2 hk hlo h0 h1
      obtain rfl : i = S := by omega
      refine br_t (nI_le (Nat.le_refl _) (by omega)) (hp cls lo rf hk ?_ hlo)
      rcases hr2 with z | z
      · exact h0 z
      · have := h1 z
        have := cb_le (pf_ld cls) i
        omega
    | succ d ih =>
      intro i r cls lo rf hi hr2 hk hlo h0 h1
      refine br_f (nI_ge (by omega) (by omega)) ?_
      rcases hr2 with z | z
      · exact br_t z (hp cls lo rf hk (h0 z) hlo)
      · refine br_f (by rw [z]; decide) ?_
        obtain ⟨cls', hrf⟩ := pf_rfx (le := le) (op := op) (ar := ar) (ct := pd_ct op ar tg) (lv := lv) cls
        have hk' := pf_rfok hk hrf
        refine xx_rf (tg := tg) (cls := cls) (cls' := cls') (lv := lv) hS hnm hce hr hcx hil hlo (hkb cls hk) (hkb cls' hk') hrf ?_
        intro r2 lo2 rf2 g1 g2 g3
        refine nm_r (nI_1 i) (ih (i + 1) r2 cls' lo2 rf2 (by omega) g1 hk' g2 ?_ ?_)
        · intro y
          have same : ∀ s, cls' s = cls s := by
            intro s
            by_cases hs : s < S
            · exact (g3.mp y) s hs
            · have hl : ¬ lv s := fun w => hs (hlS s w)
              rw [(hk.1 s).mpr hl, (hk'.1 s).mpr hl]
          have e : cls' = cls := funext same
          rw [e]
          exact pf_rfsb hce.1 hcl hk hrf same
        · intro y
          have := h1 z
          have := pf_rfct hlS hk hrf (Classical.byContradiction (fun w => by
            have : r2 = 0 := g3.mpr (fun s _ => Classical.byContradiction (fun v => w ⟨s, v⟩))
            rw [this] at y
            exact absurd y (by decide)))
          omega
  obtain ⟨cls0, hc0⟩ := pf_s0x lv pp
  have hk0 := pf_s0ok (le := le) (op := op) (ar := ar) (ct := pd_ct op ar tg) hc0
  refine xx_sc (lv := lv) (pp := pp) (cls := cls0) hS hil hpn hc0 ?_
  intro lo hlo
  refine ⟨S + 1, key S 0 1 cls0 lo rf (by omega) (Or.inr rfl) hk0 hlo (fun z => absurd z (by decide)) (fun _ => ?_)⟩
  cases hce0 : cls0 e0 with
  | none => exact absurd he ((hk0.1 e0).mp hce0)
  | some p =>
    obtain ⟨p1, p2⟩ := hk0.2.1 e0 p hce0
    have := hlS e0 he
    exact cb_pos (a := p) (decide_eq_true p2) (by omega)
end
end
section
/-! X: layout and patching -/
def ly_opd (op : Nat → Nat) (ar : Nat → Int32) (ct cls : Nat → Option Nat) (le : Nat → Nat) (c a : Nat) : Int32 := if op c < 7 then ar c else if op c = 8 ∨ op c = 9 then nI (ly_ad cls le (ct c)) - nI a else nI (ly_ad cls le (ct c))
def ly_w (op : Nat → Nat) (ar : Nat → Int32) (ct cls : Nat → Option Nat) (le : Nat → Nat) (c a : Nat) : Int64 := (nI (op c)).toInt64 + 16 * (ly_opd op ar ct cls le c a).toInt64
def ly_wok (op : Nat → Nat) (ar : Nat → Int32) (ct cls : Nat → Option Nat) (le : Nat → Nat) (wd : Nat → Int64) (i : Nat) : Prop := wd 0 = 0 ∧ ∀ s, s < i → cls s = some s → (∀ o, o < le s → wd (ly_nx cls le s + o) = ly_w op ar ct cls le (s * 16 + o) (ly_nx cls le s + o)) ∧ wd (ly_nx cls le s + le s) = 0
section
variable {mm ms mc nm M S : Nat} {lk es lc iz rn bi ac pt pc de oc : Int32} {me wk : Nat → Bool} {ow le op : Nat → Nat} {dn sn wn df ar ld rs lq il pn lo rf po st ou va : Nat → Int32} {wd : Nat → Int64}
theorem xx_lay {post : SX → Prop} {cls : Nat → Option Nat} (hS : S ≤ 12) (hle : ∀ s, le s ≤ 12) (hil : ∀ s, s < S → (il s = 0 ↔ cls s = none)) (hlo : ∀ s, s < S → lo s = oI (cls s)) (hcl : ∀ s p, cls s = some p → p ≤ s ∧ cls p = some p) (hp : ∀ po, (∀ s, s < S → po s = oI (ly_po cls le s)) → post (nI mm, nI ms, nI mc, nI nm, nI M, nI S, lk, es, lc, nI (ly_nx cls le S), rn, bi, ac, pt, pc, de, oc, bA me, dn, sn, wn, df, nA ow, nA le, nA op, ar, bA wk, ld, rs, lq, il, pn, lo, rf, po, wd, st, ou, va)) : wpX_layOut post (nI mm, nI ms, nI mc, nI nm, nI M, nI S, lk, es, lc, iz, rn, bi, ac, pt, pc, de, oc, bA me, dn, sn, wn, df, nA ow, nA le, nA op, ar, bA wk, ld, rs, lq, il, pn, lo, rf, po, wd, st, ou, va) := by
  have key : ∀ d i po, i + d = S → (∀ s, s < i → po s = oI (ly_po cls le s)) → wX_layOut_4 post (nI mm) (nI ms) (nI mc) (nI nm) (nI M) (nI S) lk es lc iz rn bi ac pt pc de oc (d + 1) (nI (ly_nx cls le i)) (nI i) (bA me) dn sn wn df (nA ow) (nA le) (nA op) ar (bA wk) ld rs lq il pn lo rf po wd st ou va := by
    intro d
    induction d with
    | zero =>
      intro i po hi h
      obtain rfl : i = S := by omega
      exact br_t (nI_le (Nat.le_refl _) (by omega)) (hp po h)
    | succ d ih =>
      intro i po hi h
      have h1 : ¬ nI S ≤ nI i := nI_ge (by omega) (by omega)
      have hin : vp_in (nI i) 12 := vp_in_nI (by omega) (by omega)
      have c0 := nI_clamp (n := i) (by omega)
      have put : ∀ z, z = oI (ly_po cls le i) → ∀ s, s < i + 1 → upd po i z s = oI (ly_po cls le s) := by
        intro z hz
        refine all_s (fun s hs => ?_) (by rw [pk_us, hz])
        rw [pk_un (by omega)]
        exact h s hs
      cases hc : cls i with
      | none =>
        refine br_f h1 ⟨hin, br_t (by rw [c0, hil i (by omega)]; exact hc) ⟨hin, nm_e (nm_r (nI_1 i) ?_)⟩⟩
        rw [c0, ← ly_sn (le := le) (fun z => by rw [hc] at z; cases z)]
        exact ih (i + 1) _ (by omega) (put _ (by rw [ly_pon hc, oi_n]))
      | some p =>
        obtain ⟨hp1, hp2⟩ := hcl i p hc
        refine br_f h1 ⟨hin, br_f (by rw [c0, hil i (by omega), hc]; exact fun z => by cases z) ⟨hin, ?_⟩⟩
        by_cases e : p = i
        · subst e
          refine br_t (by rw [c0, hlo p (by omega), hc, oi_s]) ⟨hin, nm_e ⟨hin, nm_r (e' := nI (ly_nx cls le (p + 1))) ?_ (nm_r (nI_1 p) ?_)⟩⟩
          · rw [c0, na_ap, nI_1, nI_add, ly_st hc]
          · rw [c0]
            exact ih (p + 1) _ (by omega) (put _ (by rw [ly_pos hc, oi_s]))
        · have e2 : lo (nI i).toNatClampNeg = nI p := by rw [c0, hlo i (by omega), hc, oi_s]
          refine br_f (by rw [e2, nI_eq (by omega) (by omega)]; exact e) ⟨hin, by rw [e2]; exact vp_in_nI (by omega) (by omega), hin, nm_e (nm_r (nI_1 i) ?_)⟩
          rw [e2, c0, nI_clamp (n := p) (by omega), h p (by omega), ly_pos hp2, ← ly_sn (le := le) (fun z => by rw [hc] at z; cases z; exact e rfl)]
          exact ih (i + 1) _ (by omega) (put _ (by rw [ly_pos hc]))
  exact ⟨S + 1, key S 0 po (by omega) (fun j hj => absurd hj (Nat.not_lt_zero j))⟩
theorem xx_adr {post : Int32 → Prop} {cls : Nat → Option Nat} {x : Option Nat} (hS : S ≤ 12) (hpo : ∀ s, s < S → po s = oI (ly_po cls le s)) (hx : ∀ t, x = some t → t / 16 < S ∧ cls (t / 16) ≠ none) (p : post (nI (ly_ad cls le x))) : wpX_addressOf post (nI mm, nI ms, nI mc, nI nm, nI M, nI S, lk, es, lc, iz, rn, bi, ac, pt, pc, de, oc, bA me, dn, sn, wn, df, nA ow, nA le, nA op, ar, bA wk, ld, rs, lq, il, pn, lo, rf, po, wd, st, ou, va) (oI x) := by
  cases x with
  | none => exact br_f (by decide) p
  | some t =>
    obtain ⟨h1, h2⟩ := hx t rfl
    have e1 : nI t >>> ((4 : Int32) &&& 31) = nI (t / 16) := li_sh (by omega)
    have e2 : nI t &&& 15 = nI (t % 16) := li_an (by omega)
    cases hc : cls (t / 16) with
    | none => exact absurd hc h2
    | some q =>
      refine br_t (by rw [oi_s]; exact nI_pos' (by omega)) ?_
      rw [oi_s, e1, e2, nI_clamp (by omega), hpo _ h1, ly_pos hc, oi_s, nI_add]
      refine ⟨vp_in_nI (by omega) (by omega), ?_⟩
      have e3 : ly_ad cls le (some t) = ly_nx cls le q + t % 16 := by
        show ly_ps cls le (t / 16) + t % 16 = _
        rw [ly_pss hc]
      rw [← e3]
      exact p
theorem xx_rel {post : Int32 → Prop} {o : Nat} (ho : o ≤ 13) (p1 : (o = 8 ∨ o = 9) → post 1) (p0 : ¬ (o = 8 ∨ o = 9) → post 0) : wpX_isRelative post (nI mm, nI ms, nI mc, nI nm, nI M, nI S, lk, es, lc, iz, rn, bi, ac, pt, pc, de, oc, bA me, dn, sn, wn, df, nA ow, nA le, nA op, ar, bA wk, ld, rs, lq, il, pn, lo, rf, po, wd, st, ou, va) (nI o) := by
  refine br_c (fun h => p1 (Or.inl ?_)) (fun h => br_c (fun g => p1 (Or.inr ?_)) (fun g => p0 ?_))
  · rw [li_eq8 (by omega)] at h; exact h
  · rw [li_eq9 (by omega)] at g; exact g
  · rw [li_eq8 (by omega)] at h
    rw [li_eq9 (by omega)] at g
    exact fun z => z.elim h g
theorem xx_pw {post : Int64 → Prop} {tg cls : Nat → Option Nat} {c a : Nat} (hS : S ≤ 12) (hnm : nm ≤ 16) (hce : ce_ok nm S le op ar) (hr : ∀ n, n < nm → rs n = oI (tg n)) (hcx : ∀ c x, pd_ct op ar tg c = some x → x / 16 < S) (hpo : ∀ s, s < S → po s = oI (ly_po cls le s)) (hc : c < 192) (hlv : ∀ x, pd_ct op ar tg c = some x → cls (x / 16) ≠ none) (p : post (ly_w op ar (pd_ct op ar tg) cls le c a)) : wpX_patchedWord post (nI mm, nI ms, nI mc, nI nm, nI M, nI S, lk, es, lc, iz, rn, bi, ac, pt, pc, de, oc, bA me, dn, sn, wn, df, nA ow, nA le, nA op, ar, bA wk, ld, rs, lq, il, pn, lo, rf, po, wd, st, ou, va) (nI c) (nI a) := by
  have hin : vp_in (nI c) 192 := vp_in_nI hc (by omega)
  have c0 := nI_clamp (n := c) (by omega)
  have oc := hce.2.2.1 c
  refine ⟨hin, nm_r (e' := nI (op c)) (by rw [c0]; rfl) ⟨hin, nm_r (e' := ar c) (by rw [c0]) ?_⟩⟩
  by_cases h7 : op c < 7
  · refine br_t (by rw [li_lt7 (by omega)]; exact h7) ?_
    have : ly_opd op ar (pd_ct op ar tg) cls le c a = ar c := if_pos h7
    unfold ly_w at p
    rw [this] at p
    exact p
  · refine br_f (by rw [li_lt7 (by omega)]; exact h7) ?_
    refine xx_target (tg := tg) hc hnm oc (hce.2.2.2 _) hr ?_
    refine xx_adr (cls := cls) hS hpo (fun t ht => ⟨hcx c t ht, hlv t ht⟩) ?_
    refine xx_rel oc ?_ ?_
    · intro h
      refine br_f (by decide) (nm_e ?_)
      have : ly_opd op ar (pd_ct op ar tg) cls le c a = nI (ly_ad cls le (pd_ct op ar tg c)) - nI a := by
        unfold ly_opd
        rw [if_neg h7, if_pos h]
      unfold ly_w at p
      rw [this] at p
      exact p
    · intro h
      refine br_t rfl ?_
      have : ly_opd op ar (pd_ct op ar tg) cls le c a = nI (ly_ad cls le (pd_ct op ar tg c)) := by
        unfold ly_opd
        rw [if_neg h7, if_neg h]
      unfold ly_w at p
      rw [this] at p
      exact p
theorem ly_keep {ct cls : Nat → Option Nat} {wd : Nat → Int64} {i a : Nat} {v : Int64} (h : ly_wok op ar ct cls le wd i) (ha : ly_nx cls le i ≤ a) : ly_wok op ar ct cls le (vp_updL wd a v) i := by
  have h1 := ly_1 (cls := cls) (le := le) i
  refine ⟨by rw [pk_uLn (by omega)]; exact h.1, fun s hs hc => ?_⟩
  have hlt := ly_lt (le := le) hc hs
  obtain ⟨a1, a2⟩ := h.2 s hs hc
  refine ⟨fun o ho => ?_, ?_⟩
  · rw [pk_uLn (by omega)]
    exact a1 o ho
  · rw [pk_uLn (by omega)]
    exact a2
theorem xx_pt1 {post : SX → Prop} {J : Int32 → (Nat → Int32) → (Nat → Int32) → (Nat → Int32) → (Nat → Int32) → (Nat → Int32) → (Nat → Int32) → (Nat → Int32) → (Nat → Int32) → (Nat → Int32) → (Nat → Int32) → (Nat → Int32) → (Nat → Int32) → (Nat → Int32) → (Nat → Int32) → (Nat → Int32) → (Nat → Int32) → (Nat → Int32) → (Nat → Int32) → (Nat → Int64) → (Nat → Int32) → (Nat → Int32) → (Nat → Int32) → Prop} {tg cls : Nat → Option Nat} {s : Nat} (hS : S ≤ 12) (hnm : nm ≤ 16) (hce : ce_ok nm S le op ar) (hr : ∀ n, n < nm → rs n = oI (tg n)) (hcx : ∀ c x, pd_ct op ar tg c = some x → x / 16 < S) (hpo : ∀ s, s < S → po s = oI (ly_po cls le s)) (k : lk_ok S le op ar (pd_ct op ar tg) cls) (hs : s < S) (hc : cls s = some s) (hJ : ∀ wd, ly_wok op ar (pd_ct op ar tg) cls le wd (s + 1) → J (nI (s + 1)) (bA me) dn sn wn df (nA ow) (nA le) (nA op) ar (bA wk) ld rs lq il pn lo rf po wd st ou va) : ∀ d i wd, i + d = le s → ly_wok op ar (pd_ct op ar tg) cls le wd s → (∀ o, o < i → wd (ly_nx cls le s + o) = ly_w op ar (pd_ct op ar tg) cls le (s * 16 + o) (ly_nx cls le s + o)) → wX_patch_29 post J (nI s) (nI mm) (nI ms) (nI mc) (nI nm) (nI M) (nI S) lk es lc iz rn bi ac pt pc de oc (d + 1) (nI i) (bA me) dn sn wn df (nA ow) (nA le) (nA op) ar (bA wk) ld rs lq il pn lo rf po wd st ou va := by
  have l := hce.1 s
  have hin : vp_in (nI s) 12 := vp_in_nI (by omega) (by omega)
  have c0 := nI_clamp (n := s) (by omega)
  have e1 : nA le (nI s).toNatClampNeg = nI (le s) := by rw [c0]; rfl
  have e2 : po (nI s).toNatClampNeg = nI (ly_nx cls le s) := by rw [c0, hpo s hs, ly_pos hc, oi_s]
  have hb := ly_bd (cls := cls) hce.1 s
  intro d
  induction d with
  | zero =>
    intro i wd hi hw h
    obtain rfl : i = le s := by omega
    refine ⟨hin, br_t (by rw [e1]; exact nI_le (Nat.le_refl _) (by omega)) ⟨hin, hin, ?_⟩⟩
    rw [e2, e1, nI_add]
    refine ⟨vp_in_nI (by omega) (by omega), nm_e (nm_r (nI_1 s) (hJ _ ?_))⟩
    rw [nI_clamp (by omega)]
    have hw' := ly_keep (v := 0) (a := ly_nx cls le s + le s) hw (by omega)
    refine ⟨hw'.1, ?_⟩
    intro t ht hct
    rcases Nat.lt_or_ge t s with z | z
    · exact hw'.2 t z hct
    · have e : t = s := by omega
      subst e
      refine ⟨fun o ho => ?_, pk_uLs⟩
      rw [pk_uLn (by omega)]
      exact h o ho
  | succ d ih =>
    intro i wd hi hw h
    have h1 : ¬ nA le (nI s).toNatClampNeg ≤ nI i := by rw [e1]; exact nI_ge (by omega) (by omega)
    have dv := pf_dv s i (by omega)
    refine ⟨hin, br_f h1 ⟨hin, hin, ?_⟩⟩
    rw [e2, li_m16, nI_add, nI_add]
    refine xx_pw (tg := tg) (cls := cls) hS hnm hce hr hcx hpo (by omega) ?_ ?_
    · intro x hx
      exact k.2.1 (s * 16 + i) x (by rw [dv.1, hc]; exact fun z => by cases z) (by rw [dv.1, dv.2]; omega) hx
    · refine ⟨vp_in_nI (by omega) (by omega), nm_e (nm_r (nI_1 i) ?_)⟩
      rw [nI_clamp (by omega)]
      refine ih (i + 1) _ (by omega) (ly_keep hw (by omega)) (all_s (fun o ho => ?_) pk_uLs)
      rw [pk_uLn (by omega)]
      exact h o ho
theorem xx_pt {post : SX → Prop} {tg cls : Nat → Option Nat} (hS : S ≤ 12) (hnm : nm ≤ 16) (hce : ce_ok nm S le op ar) (hr : ∀ n, n < nm → rs n = oI (tg n)) (hcx : ∀ c x, pd_ct op ar tg c = some x → x / 16 < S) (hlo : ∀ s, s < S → lo s = oI (cls s)) (hpo : ∀ s, s < S → po s = oI (ly_po cls le s)) (k : lk_ok S le op ar (pd_ct op ar tg) cls) (hp : ∀ wd, ly_wok op ar (pd_ct op ar tg) cls le wd S → post (nI mm, nI ms, nI mc, nI nm, nI M, nI S, lk, es, lc, iz, rn, bi, ac, pt, pc, de, oc, bA me, dn, sn, wn, df, nA ow, nA le, nA op, ar, bA wk, ld, rs, lq, il, pn, lo, rf, po, wd, st, ou, va)) : wpX_patch post (nI mm, nI ms, nI mc, nI nm, nI M, nI S, lk, es, lc, iz, rn, bi, ac, pt, pc, de, oc, bA me, dn, sn, wn, df, nA ow, nA le, nA op, ar, bA wk, ld, rs, lq, il, pn, lo, rf, po, wd, st, ou, va) := by
  have key : ∀ d i wd, i + d = S → ly_wok op ar (pd_ct op ar tg) cls le wd i → wX_patch_9 post (nI mm) (nI ms) (nI mc) (nI nm) (nI M) (nI S) lk es lc iz rn bi ac pt pc de oc (d + 1) (nI i) (bA me) dn sn wn df (nA ow) (nA le) (nA op) ar (bA wk) ld rs lq il pn lo rf po wd st ou va := by
    intro d
    induction d with
    | zero =>
      intro i wd hi h
      obtain rfl : i = S := by omega
      exact br_t (nI_le (Nat.le_refl _) (by omega)) (hp wd h)
    | succ d ih =>
      intro i wd hi h
      have h1 : ¬ nI S ≤ nI i := nI_ge (by omega) (by omega)
      have hin : vp_in (nI i) 12 := vp_in_nI (by omega) (by omega)
      have c0 := nI_clamp (n := i) (by omega)
      have hcb : ∀ s p, cls s = some p → p < 2 ^ 31 := fun s p hp => by have := k.1 s p hp; omega
      refine br_f h1 ⟨hin, ?_⟩
      rw [c0, hlo i (by omega), ← oi_s i, oi_inj (hcb i) (fun p hp => by cases hp; omega)]
      by_cases hc : cls i = some i
      · refine br_t hc ⟨le i + 1, ?_⟩
        exact xx_pt1 (tg := tg) (cls := cls) hS hnm hce hr hcx hpo k (by omega) hc (fun wd hw => ih (i + 1) wd (by omega) hw) (le i) 0 wd (by omega) h (fun j hj => absurd hj (Nat.not_lt_zero j))
      · refine br_f hc (nm_r (nI_1 i) (ih (i + 1) wd (by omega) ⟨h.1, ?_⟩))
        intro s hs hcs
        rcases Nat.lt_or_ge s i with z | z
        · exact h.2 s z hcs
        · have e : s = i := by omega
          rw [e] at hcs
          exact absurd hcs hc
  refine nm_e ⟨S + 1, key S 0 _ (by omega) ⟨pk_uLs, fun s hs => absurd hs (Nat.not_lt_zero s)⟩⟩
end
end
section
/-! Y: collecting and pinning -/
section
variable {mm ms mc nm M S F : Nat} {lk sa rn yb yac ypt yde yoc ypc : Int32} {me wk ft : Nat → Bool} {ow le op fm fn fs : Nat → Nat} {ar vl yld ytg ylv yfd yst ou : Nat → Int32}
theorem yy_pass {post : Int32 → SY → Prop} {J : Int32 → (Nat → Int32) → (Nat → Int32) → (Nat → Int32) → (Nat → Int32) → (Nat → Int32) → (Nat → Int32) → (Nat → Int32) → (Nat → Int32) → (Nat → Int32) → (Nat → Int32) → (Nat → Int32) → (Nat → Int32) → (Nat → Int32) → (Nat → Int32) → (Nat → Int32) → (Nat → Int32) → (Nat → Int32) → Prop} {tg : Nat → Option Nat} {LV : Nat → Prop} {i : Nat} {b : Nat → Bool} (hS : S ≤ 12) (hnm : nm ≤ 16) (hce : ce_ok nm S le op ar) (hr : ∀ n, n < nm → ytg n = oI (tg n)) (hcx : ∀ c x, pd_ct op ar tg c = some x → x / 16 < S) (hcl : pf_cl le (pd_ct op ar tg) LV) (hJ : ∀ (b' : Nat → Bool) (ylv' : Nat → Int32), (∀ s, s < 12 → ylv' s = bI (b' s)) → (∀ s, b s = true → b' s = true) → (∀ s, b' s = true → LV s) → (∀ c x, c % 16 < le (c / 16) → b (c / 16) = true → pd_ct op ar tg c = some x → b' (x / 16) = true) → J (nI (i + 1)) (bA me) (nA ow) (nA le) (nA op) ar (bA wk) vl (nA fm) (nA fn) (nA fs) (bA ft) yld ytg ylv' yfd yst ou) : ∀ (d c : Nat) (b1 : Nat → Bool) (ylv1 : Nat → Int32), c + d = 192 → (∀ s, s < 12 → ylv1 s = bI (b1 s)) → (∀ s, b s = true → b1 s = true) → (∀ s, b1 s = true → LV s) → (∀ c' x, c' < c → c' % 16 < le (c' / 16) → b (c' / 16) = true → pd_ct op ar tg c' = some x → b1 (x / 16) = true) → wY_collect_64 post J (nI i) (nI mm) (nI ms) (nI mc) (nI nm) (nI M) (nI S) (nI F) lk sa rn yb yac ypt yde yoc ypc (d + 1) (nI c) (bA me) (nA ow) (nA le) (nA op) ar (bA wk) vl (nA fm) (nA fn) (nA fs) (bA ft) yld ytg ylv1 yfd yst ou := by
  intro d
  induction d with
  | zero =>
    intro c b1 ylv1 hc h1 h2 h3 h4
    obtain rfl : c = 192 := by omega
    refine br_t (nI_le (a := 192) (Nat.le_refl _) (by decide)) (nm_r (nI_1 i) (hJ b1 ylv1 h1 h2 h3 ?_))
    intro c x a1 a2 a3
    have := ce_S hce a1
    exact h4 c x (by omega) a1 a2 a3
  | succ d ih =>
    intro c b1 ylv1 hc h1 h2 h3 h4
    have g1 : ¬ (192 : Int32) ≤ nI c := nI_ge (b := 192) (by omega) (by decide)
    have go : (∀ x, c % 16 < le (c / 16) → b (c / 16) = true → pd_ct op ar tg c = some x → b1 (x / 16) = true) → wY_collect_64 post J (nI i) (nI mm) (nI ms) (nI mc) (nI nm) (nI M) (nI S) (nI F) lk sa rn yb yac ypt yde yoc ypc (d + 1) (nI (c + 1)) (bA me) (nA ow) (nA le) (nA op) ar (bA wk) vl (nA fm) (nA fn) (nA fs) (bA ft) yld ytg ylv1 yfd yst ou := by
      intro z
      refine ih (c + 1) b1 ylv1 (by omega) h1 h2 h3 ?_
      intro c' x a0 a1 a2 a3
      rcases Nat.lt_or_ge c' c with w | w
      · exact h4 c' x w a1 a2 a3
      · have e : c' = c := by omega
        subst e
        exact z x a1 a2 a3
    refine br_f g1 (yy_cell hce.1 (by omega) ?_ ?_)
    · intro hcell
      have hs := ce_S hce hcell
      have hin : vp_in (nI c) 192 := vp_in_nI (by omega) (by omega)
      have e1 : nI c >>> ((4 : Int32) &&& 31) = nI (c / 16) := li_sh (by omega)
      have e0 := nI_clamp (n := c) (by omega)
      have i2 : vp_in (nI c >>> ((4 : Int32) &&& 31)) 12 := by rw [e1]; exact vp_in_nI (by omega) (by omega)
      have e3 : ylv1 (nI c >>> ((4 : Int32) &&& 31)).toNatClampNeg = bI (b1 (c / 16)) := by rw [e1, nI_clamp (by omega), h1 _ (by omega)]
      have e4 : nA op (nI c).toNatClampNeg = nI (op c) := by rw [e0]; rfl
      have o13 := hce.2.2.1 c
      refine br_f (by decide) ⟨i2, ?_⟩
      cases hL : b1 (c / 16) with
      | false =>
        refine br_t (by rw [e3, hL]; rfl) (nm_r (nI_1 c) (go ?_))
        intro x a1 a2 a3
        rw [h2 _ a2] at hL
        cases hL
      | true =>
        refine br_f (by rw [e3, hL]; decide) ⟨hin, ?_⟩
        by_cases h7 : op c < 7
        · refine br_t (by rw [e4, li_lt7 (by omega)]; exact h7) (nm_r (nI_1 c) (go ?_))
          intro x a1 a2 a3
          rw [pd_ctp h7] at a3
          cases a3
        · obtain ⟨k, hk, ha⟩ := hce.2.2.2 c (by omega)
          have e6 : ar (nI c).toNatClampNeg = nI k := by rw [e0, ha]
          have e7 : pd_ct op ar tg c = tg k := pd_ctr (by omega) ha (by omega)
          have i3 : vp_in (ar (nI c).toNatClampNeg) 16 := by rw [e6]; exact vp_in_nI (by omega) (by omega)
          have e8 : ytg (ar (nI c).toNatClampNeg).toNatClampNeg = oI (tg k) := by rw [e6, nI_clamp (by omega), hr k hk]
          refine br_f (by rw [e4, li_lt7 (by omega)]; exact h7) ⟨hin, i3, ?_⟩
          rw [e8]
          cases ht : tg k with
          | none =>
            refine br_t (by decide) (nm_r (nI_1 c) (go ?_))
            intro x a1 a2 a3
            rw [e7, ht] at a3
            cases a3
          | some x =>
            have hx := hcx c x (e7.trans ht)
            have e9 : oI (some x) >>> ((4 : Int32) &&& 31) = nI (x / 16) := by rw [oi_s]; exact li_sh (by omega)
            refine br_f (by rw [oi_s]; exact nI_pos (by omega)) ⟨hin, i3, ?_⟩
            rw [e9]
            refine ⟨vp_in_nI (by omega) (by omega), nm_e (nm_r (nI_1 c) ?_)⟩
            rw [nI_clamp (by omega)]
            refine ih (c + 1) (ub b1 (x / 16) true) _ (by omega) ?_ ?_ ?_ ?_
            · intro s hs'
              by_cases e : s = x / 16
              · rw [e, pk_us, ub_s]; rfl
              · rw [pk_un e, ub_n e]; exact h1 s hs'
            · intro s hs'
              by_cases e : s = x / 16
              · rw [e, ub_s]
              · rw [ub_n e]; exact h2 s hs'
            · intro s hs'
              by_cases e : s = x / 16
              · rw [e]; exact hcl c x (h3 _ hL) hcell (e7.trans ht)
              · rw [ub_n e] at hs'; exact h3 s hs'
            · intro c' y a0 a1 a2 a3
              by_cases e : y / 16 = x / 16
              · rw [e, ub_s]
              · rw [ub_n e]
                rcases Nat.lt_or_ge c' c with w | w
                · exact h4 c' y w a1 a2 a3
                · have e' : c' = c := by omega
                  subst e'
                  rw [e7, ht] at a3
                  cases a3
                  exact absurd rfl e
    · intro hcell
      exact br_t rfl (nm_r (nI_1 c) (go (fun x a1 => absurd a1 hcell)))
theorem yy_last {post : Int32 → SY → Prop} {tg : Nat → Option Nat} {LV : Nat → Prop} (hS : S ≤ 12) (hnm : nm ≤ 16) (hce : ce_ok nm S le op ar) (hr : ∀ n, n < nm → ytg n = oI (tg n)) (hcx : ∀ c x, pd_ct op ar tg c = some x → x / 16 < S) (hlv : ∀ s, s < 12 → (ylv s = 0 ↔ ¬ LV s)) (p0 : pf_bad le op (pd_ct op ar tg) wk LV → post 0 (nI mm, nI ms, nI mc, nI nm, nI M, nI S, nI F, lk, sa, rn, yb, yac, ypt, yde, yoc, ypc, bA me, nA ow, nA le, nA op, ar, bA wk, vl, nA fm, nA fn, nA fs, bA ft, yld, ytg, ylv, yfd, yst, ou)) (p1 : ¬ pf_bad le op (pd_ct op ar tg) wk LV → post 1 (nI mm, nI ms, nI mc, nI nm, nI M, nI S, nI F, lk, sa, rn, yb, yac, ypt, yde, yoc, ypc, bA me, nA ow, nA le, nA op, ar, bA wk, vl, nA fm, nA fn, nA fs, bA ft, yld, ytg, ylv, yfd, yst, ou)) : ∀ d c, c + d = 192 → (∀ c', c' < c → ¬ (LV (c' / 16) ∧ c' % 16 < le (c' / 16) ∧ 7 ≤ op c' ∧ wk c' = false ∧ pd_ct op ar tg c' = none)) → wY_collect_148 post (nI mm) (nI ms) (nI mc) (nI nm) (nI M) (nI S) (nI F) lk sa rn yb yac ypt yde yoc ypc (bA me) (nA ow) (nA le) (nA op) ar (bA wk) vl (nA fm) (nA fn) (nA fs) (bA ft) yld ytg ylv yfd yst ou (d + 1) (nI c) := by
  intro d
  induction d with
  | zero =>
    intro c hc h
    obtain rfl : c = 192 := by omega
    refine br_t (nI_le (a := 192) (Nat.le_refl _) (by decide)) (p1 ?_)
    rintro ⟨c, a⟩
    have := ce_S hce a.2.1
    exact h c (by omega) a
  | succ d ih =>
    intro c hc h
    have g1 : ¬ (192 : Int32) ≤ nI c := nI_ge (b := 192) (by omega) (by decide)
    have go : (¬ (LV (c / 16) ∧ c % 16 < le (c / 16) ∧ 7 ≤ op c ∧ wk c = false ∧ pd_ct op ar tg c = none)) → wY_collect_148 post (nI mm) (nI ms) (nI mc) (nI nm) (nI M) (nI S) (nI F) lk sa rn yb yac ypt yde yoc ypc (bA me) (nA ow) (nA le) (nA op) ar (bA wk) vl (nA fm) (nA fn) (nA fs) (bA ft) yld ytg ylv yfd yst ou (d + 1) (nI (c + 1)) := fun z => ih (c + 1) (by omega) (all_s h z)
    refine br_f g1 (yy_cell hce.1 (by omega) ?_ ?_)
    · intro hcell
      have hs := ce_S hce hcell
      have hin : vp_in (nI c) 192 := vp_in_nI (by omega) (by omega)
      have e1 : nI c >>> ((4 : Int32) &&& 31) = nI (c / 16) := li_sh (by omega)
      have e0 := nI_clamp (n := c) (by omega)
      have i2 : vp_in (nI c >>> ((4 : Int32) &&& 31)) 12 := by rw [e1]; exact vp_in_nI (by omega) (by omega)
      have e3 : ylv (nI c >>> ((4 : Int32) &&& 31)).toNatClampNeg = 0 ↔ ¬ LV (c / 16) := by rw [e1, nI_clamp (by omega), hlv _ (by omega)]
      have e4 : nA op (nI c).toNatClampNeg = nI (op c) := by rw [e0]; rfl
      have e5 : bA wk (nI c).toNatClampNeg = bI (wk c) := by rw [e0]; rfl
      have o13 := hce.2.2.1 c
      refine br_f (by decide) ⟨i2, ?_⟩
      by_cases hL : LV (c / 16)
      · refine br_f (by rw [e3]; exact fun z => z hL) ⟨hin, ?_⟩
        by_cases h7 : op c < 7
        · exact br_t (by rw [e4, li_lt7 (by omega)]; exact h7) (nm_r (nI_1 c) (go (fun z => by have := z.2.2.1; omega)))
        · refine br_f (by rw [e4, li_lt7 (by omega)]; exact h7) ⟨hin, ?_⟩
          cases hw : wk c with
          | true => exact br_f (by rw [e5, hw]; decide) (nm_r (nI_1 c) (go (fun z => by rw [z.2.2.2.1] at hw; cases hw)))
          | false =>
            obtain ⟨k, hk, ha⟩ := hce.2.2.2 c (by omega)
            have e6 : ar (nI c).toNatClampNeg = nI k := by rw [e0, ha]
            have e7 : pd_ct op ar tg c = tg k := pd_ctr (by omega) ha (by omega)
            have i3 : vp_in (ar (nI c).toNatClampNeg) 16 := by rw [e6]; exact vp_in_nI (by omega) (by omega)
            have e8 : ytg (ar (nI c).toNatClampNeg).toNatClampNeg = oI (tg k) := by rw [e6, nI_clamp (by omega), hr k hk]
            refine br_t (by rw [e5, hw]; rfl) ⟨hin, i3, ?_⟩
            rw [e8]
            cases ht : tg k with
            | none => exact br_f (by decide) (p0 ⟨c, hL, hcell, by omega, hw, e7.trans ht⟩)
            | some x =>
              have hx := hcx c x (e7.trans ht)
              refine br_t (by rw [oi_s]; exact nI_pos' (by omega)) (nm_r (nI_1 c) (go ?_))
              intro z
              rw [e7, ht] at z
              cases z.2.2.2.2
      · exact br_t (by rw [e3]; exact hL) (nm_r (nI_1 c) (go (fun z => hL z.1)))
    · intro hcell
      exact br_t rfl (nm_r (nI_1 c) (go (fun z => hcell z.2.1)))
theorem yy_coll {post : Int32 → SY → Prop} {tg : Nat → Option Nat} {e t0 : Nat} (hS : S ≤ 12) (hnm : nm ≤ 16) (hce : ce_ok nm S le op ar) (hr : ∀ n, n < nm → ytg n = oI (tg n)) (hcx : ∀ c x, pd_ct op ar tg c = some x → x / 16 < S) (he : e < nm) (ht : tg e = some t0) (ht0 : t0 / 16 < S) (hlS : ∀ s, pf_lv le (pd_ct op ar tg) (t0 / 16) s → s < S) (p0 : pf_bad le op (pd_ct op ar tg) wk (pf_lv le (pd_ct op ar tg) (t0 / 16)) → ∀ ylv, post 0 (nI mm, nI ms, nI mc, nI nm, nI M, nI S, nI F, lk, nI e, rn, yb, yac, ypt, yde, yoc, ypc, bA me, nA ow, nA le, nA op, ar, bA wk, vl, nA fm, nA fn, nA fs, bA ft, yld, ytg, ylv, yfd, yst, ou)) (p1 : ¬ pf_bad le op (pd_ct op ar tg) wk (pf_lv le (pd_ct op ar tg) (t0 / 16)) → ∀ ylv, (∀ s, s < 12 → (ylv s = 0 ↔ ¬ pf_lv le (pd_ct op ar tg) (t0 / 16) s)) → post 1 (nI mm, nI ms, nI mc, nI nm, nI M, nI S, nI F, lk, nI e, rn, yb, yac, ypt, yde, yoc, ypc, bA me, nA ow, nA le, nA op, ar, bA wk, vl, nA fm, nA fn, nA fs, bA ft, yld, ytg, ylv, yfd, yst, ou)) : wpY_collect post (nI mm, nI ms, nI mc, nI nm, nI M, nI S, nI F, lk, nI e, rn, yb, yac, ypt, yde, yoc, ypc, bA me, nA ow, nA le, nA op, ar, bA wk, vl, nA fm, nA fn, nA fs, bA ft, yld, ytg, ylv, yfd, yst, ou) := by
  have cE := nI_clamp (n := e) (by omega)
  have iE : vp_in (nI e) 16 := vp_in_nI (by omega) (by omega)
  have eT : ytg (nI e).toNatClampNeg = nI t0 := by rw [cE, hr e he, ht, oi_s]
  have eS : ytg (nI e).toNatClampNeg >>> ((4 : Int32) &&& 31) = nI (t0 / 16) := by rw [eT]; exact li_sh (by omega)
  have k56 : ∀ (d i : Nat) (b : Nat → Bool) (ylv : Nat → Int32), i + d = 12 → (∀ s, s < 12 → ylv s = bI (b s)) → b (t0 / 16) = true → (∀ s, b s = true → pf_lv le (pd_ct op ar tg) (t0 / 16) s) → ((∀ s, pf_lv le (pd_ct op ar tg) (t0 / 16) s → b s = true) ∨ i < cb b 12) → wY_collect_56 post (nI mm) (nI ms) (nI mc) (nI nm) (nI M) (nI S) (nI F) lk (nI e) rn yb yac ypt yde yoc ypc (d + 1) (nI i) (bA me) (nA ow) (nA le) (nA op) ar (bA wk) vl (nA fm) (nA fn) (nA fs) (bA ft) yld ytg ylv yfd yst ou := by
    intro d
    induction d with
    | zero =>
      intro i b ylv hi h1 h2 h3 h4
      obtain rfl : i = 12 := by omega
      have h5 : ∀ s, pf_lv le (pd_ct op ar tg) (t0 / 16) s → b s = true := by
        rcases h4 with z | z
        · exact z
        · have := cb_le b 12
          omega
      have h6 : ∀ s, s < 12 → (ylv s = 0 ↔ ¬ pf_lv le (pd_ct op ar tg) (t0 / 16) s) := by
        intro s hs
        rw [h1 s hs, bi_0]
        exact ⟨fun z w => bo_d (h5 s w) z, fun z => bo_n (fun w => z (h3 s w))⟩
      refine br_t (nI_le (a := 12) (Nat.le_refl _) (by decide)) ⟨193, ?_⟩
      exact yy_last (tg := tg) (LV := pf_lv le (pd_ct op ar tg) (t0 / 16)) hS hnm hce hr hcx h6 (fun z => p0 z ylv) (fun z => p1 z ylv h6) 192 0 (by omega) (fun j hj => absurd hj (Nat.not_lt_zero j))
    | succ d ih =>
      intro i b ylv hi h1 h2 h3 h4
      refine br_f (nI_ge (b := 12) (by omega) (by decide)) ⟨193, ?_⟩
      refine yy_pass (tg := tg) (LV := pf_lv le (pd_ct op ar tg) (t0 / 16)) (b := b) hS hnm hce hr hcx pf_lc ?_ 192 0 b ylv (by omega) h1 (fun _ h => h) h3 (fun c x hj => absurd hj (Nat.not_lt_zero c))
      intro b' ylv' g1 g2 g3 g4
      refine ih (i + 1) b' ylv' (by omega) g1 (g2 _ h2) g3 ?_
      rcases h4 with z | z
      · exact Or.inl (fun s hs => g2 s (z s hs))
      · by_cases hall : ∀ s, pf_lv le (pd_ct op ar tg) (t0 / 16) s → b s = true
        · exact Or.inl (fun s hs => g2 s (hall s hs))
        · right
          have hx : ∃ c x, c % 16 < le (c / 16) ∧ b (c / 16) = true ∧ pd_ct op ar tg c = some x ∧ ¬ b (x / 16) = true := by
            apply Classical.byContradiction
            intro hno
            apply hall
            intro s hs
            refine hs (fun s => b s = true) h2 ?_
            intro c x a1 a2 a3
            apply Classical.byContradiction
            intro w
            exact hno ⟨c, x, a2, a1, a3, w⟩
          obtain ⟨c, x, a1, a2, a3, a4⟩ := hx
          have := hcx c x a3
          have := cb_lt (p := b) (q := b') (a := x / 16) a4 (g4 c x a1 a2 a3) (n := 12) (fun s _ hs => g2 s hs) (by omega)
          omega
  have k16 : ∀ (d i : Nat) (ylv : Nat → Int32), i + d = 12 → (∀ s, s < i → ylv s = bI (decide (s = t0 / 16))) → wY_collect_16 post (nI mm) (nI ms) (nI mc) (nI nm) (nI M) (nI S) (nI F) lk (nI e) rn yb yac ypt yde yoc ypc (d + 1) (nI i) (bA me) (nA ow) (nA le) (nA op) ar (bA wk) vl (nA fm) (nA fn) (nA fs) (bA ft) yld ytg ylv yfd yst ou := by
    intro d
    induction d with
    | zero =>
      intro i ylv hi h
      obtain rfl : i = 12 := by omega
      refine br_t (nI_le (a := 12) (Nat.le_refl _) (by decide)) ⟨13, ?_⟩
      refine k56 12 0 (fun s => decide (s = t0 / 16)) ylv (by omega) h (decide_eq_true rfl) ?_ (Or.inr (cb_pos (a := t0 / 16) (decide_eq_true rfl) (by omega)))
      intro s hs
      have hs := of_decide_eq_true hs
      rw [hs]
      exact pf_l0
    | succ d ih =>
      intro i ylv hi h
      have hin : vp_in (nI i) 12 := vp_in_nI (by omega) (by omega)
      have c0 := nI_clamp (n := i) (by omega)
      refine br_f (nI_ge (b := 12) (by omega) (by decide)) ⟨iE, ?_⟩
      rw [eS]
      by_cases z : i = t0 / 16
      · refine br_t (by rw [z]) ⟨hin, nm_e (nm_r (nI_1 i) (ih (i + 1) _ (by omega) ?_))⟩
        rw [c0]
        refine all_s (fun s hs => ?_) (by rw [pk_us, decide_eq_true z]; rfl)
        rw [pk_un (by omega)]
        exact h s hs
      · refine br_f (by rw [nI_eq (by omega) (by omega)]; exact z) ⟨hin, nm_e (nm_r (nI_1 i) (ih (i + 1) _ (by omega) ?_))⟩
        rw [c0]
        refine all_s (fun s hs => ?_) (by rw [pk_us, decide_eq_false z]; rfl)
        rw [pk_un (by omega)]
        exact h s hs
  refine ⟨iE, br_t (by rw [eT]; exact nI_pos' (by omega)) ⟨13, k16 12 0 ylv (by omega) (fun j hj => absurd hj (Nat.not_lt_zero j))⟩⟩
theorem yy_collN {post : Int32 → SY → Prop} {tg : Nat → Option Nat} {e : Nat} (hnm : nm ≤ 16) (hr : ∀ n, n < nm → ytg n = oI (tg n)) (he : e < nm) (ht : tg e = none) (p0 : post 0 (nI mm, nI ms, nI mc, nI nm, nI M, nI S, nI F, lk, nI e, rn, yb, yac, ypt, yde, yoc, ypc, bA me, nA ow, nA le, nA op, ar, bA wk, vl, nA fm, nA fn, nA fs, bA ft, yld, ytg, ylv, yfd, yst, ou)) : wpY_collect post (nI mm, nI ms, nI mc, nI nm, nI M, nI S, nI F, lk, nI e, rn, yb, yac, ypt, yde, yoc, ypc, bA me, nA ow, nA le, nA op, ar, bA wk, vl, nA fm, nA fn, nA fs, bA ft, yld, ytg, ylv, yfd, yst, ou) := by
  have cE := nI_clamp (n := e) (by omega)
  have iE : vp_in (nI e) 16 := vp_in_nI (by omega) (by omega)
  have eT : ytg (nI e).toNatClampNeg = -1 := by rw [cE, hr e he, ht, oi_n]
  exact ⟨iE, br_f (by rw [eT]; decide) p0⟩
theorem yy_pinned {post : Int32 → Prop} {tg : Nat → Option Nat} {LV : Nat → Prop} {s : Nat} (hS : S ≤ 12) (hnm : nm ≤ 16) (hce : ce_ok nm S le op ar) (hr : ∀ n, n < nm → ytg n = oI (tg n)) (hcx : ∀ c x, pd_ct op ar tg c = some x → x / 16 < S) (hlv : ∀ s, s < 12 → (ylv s = 0 ↔ ¬ LV s)) (hs : s < 12) (p1 : pf_pn le op (pd_ct op ar tg) LV s → post 1) (p0 : ¬ pf_pn le op (pd_ct op ar tg) LV s → post 0) : wpY_pinned post (nI mm, nI ms, nI mc, nI nm, nI M, nI S, nI F, lk, sa, rn, yb, yac, ypt, yde, yoc, ypc, bA me, nA ow, nA le, nA op, ar, bA wk, vl, nA fm, nA fn, nA fs, bA ft, yld, ytg, ylv, yfd, yst, ou) (nI s) := by
  have key : ∀ d c, c + d = 192 → (∀ c', c' < c → ¬ ∃ x, LV (c' / 16) ∧ c' % 16 < le (c' / 16) ∧ (op c' = 11 ∨ op c' = 13) ∧ pd_ct op ar tg c' = some x ∧ x / 16 = s) → wY_pinned_2 post (nI s) (nI mm) (nI ms) (nI mc) (nI nm) (nI M) (nI S) (nI F) lk sa rn yb yac ypt yde yoc ypc (bA me) (nA ow) (nA le) (nA op) ar (bA wk) vl (nA fm) (nA fn) (nA fs) (bA ft) yld ytg ylv yfd yst ou (d + 1) (nI c) := by
    intro d
    induction d with
    | zero =>
      intro c hc h
      obtain rfl : c = 192 := by omega
      refine br_t (nI_le (a := 192) (Nat.le_refl _) (by decide)) (p0 ?_)
      rintro ⟨c, x, a⟩
      have := ce_S hce a.2.1
      exact h c (by omega) ⟨x, a⟩
    | succ d ih =>
      intro c hc h
      have g1 : ¬ (192 : Int32) ≤ nI c := nI_ge (b := 192) (by omega) (by decide)
      have go : (¬ ∃ x, LV (c / 16) ∧ c % 16 < le (c / 16) ∧ (op c = 11 ∨ op c = 13) ∧ pd_ct op ar tg c = some x ∧ x / 16 = s) → wY_pinned_2 post (nI s) (nI mm) (nI ms) (nI mc) (nI nm) (nI M) (nI S) (nI F) lk sa rn yb yac ypt yde yoc ypc (bA me) (nA ow) (nA le) (nA op) ar (bA wk) vl (nA fm) (nA fn) (nA fs) (bA ft) yld ytg ylv yfd yst ou (d + 1) (nI (c + 1)) := fun z => ih (c + 1) (by omega) (all_s h z)
      refine br_f g1 (yy_cell hce.1 (by omega) ?_ ?_)
      · intro hcell
        have hs := ce_S hce hcell
        have hin : vp_in (nI c) 192 := vp_in_nI (by omega) (by omega)
        have e1 : nI c >>> ((4 : Int32) &&& 31) = nI (c / 16) := li_sh (by omega)
        have e0 := nI_clamp (n := c) (by omega)
        have i2 : vp_in (nI c >>> ((4 : Int32) &&& 31)) 12 := by rw [e1]; exact vp_in_nI (by omega) (by omega)
        have e3 : ylv (nI c >>> ((4 : Int32) &&& 31)).toNatClampNeg = 0 ↔ ¬ LV (c / 16) := by rw [e1, nI_clamp (by omega), hlv _ (by omega)]
        have e4 : nA op (nI c).toNatClampNeg = nI (op c) := by rw [e0]; rfl
        have o13 := hce.2.2.1 c
        refine br_f (by decide) ⟨i2, ?_⟩
        by_cases hL : LV (c / 16)
        · refine br_f (by rw [e3]; exact fun z => z hL) ⟨hin, ?_⟩
          have J50 : (op c = 11 ∨ op c = 13) → wY_pinned_50 post (wY_pinned_2 post (nI s) (nI mm) (nI ms) (nI mc) (nI nm) (nI M) (nI S) (nI F) lk sa rn yb yac ypt yde yoc ypc (bA me) (nA ow) (nA le) (nA op) ar (bA wk) vl (nA fm) (nA fn) (nA fs) (bA ft) yld ytg ylv yfd yst ou (d + 1)) (nI s) (nI c) (nI mm) (nI ms) (nI mc) (nI nm) (nI M) (nI S) (nI F) lk sa rn yb yac ypt yde yoc ypc (bA me) (nA ow) (nA le) (nA op) ar (bA wk) vl (nA fm) (nA fn) (nA fs) (bA ft) yld ytg ylv yfd yst ou := by
            intro hop
            obtain ⟨k, hk, ha⟩ := hce.2.2.2 c (by omega)
            have e6 : ar (nI c).toNatClampNeg = nI k := by rw [e0, ha]
            have e7 : pd_ct op ar tg c = tg k := pd_ctr (by omega) ha (by omega)
            have i3 : vp_in (ar (nI c).toNatClampNeg) 16 := by rw [e6]; exact vp_in_nI (by omega) (by omega)
            have e8 : ytg (ar (nI c).toNatClampNeg).toNatClampNeg = oI (tg k) := by rw [e6, nI_clamp (by omega), hr k hk]
            unfold wY_pinned_50
            rw [e8]
            refine ⟨hin, i3, ?_⟩
            cases ht : tg k with
            | none =>
              refine br_t (by decide) (nm_r (nI_1 c) (go ?_))
              rintro ⟨x, z⟩
              rw [e7, ht] at z
              cases z.2.2.2.1
            | some x =>
              have hx := hcx c x (e7.trans ht)
              have e9 : oI (some x) >>> ((4 : Int32) &&& 31) = nI (x / 16) := by rw [oi_s]; exact li_sh (by omega)
              refine br_f (by rw [oi_s]; exact nI_pos (by omega)) ⟨hin, i3, ?_⟩
              rw [e9, nI_eq (by omega) (by omega)]
              by_cases hxs : x / 16 = s
              · exact br_t hxs (p1 ⟨c, x, hL, hcell, hop, e7.trans ht, hxs⟩)
              · refine br_f hxs (nm_r (nI_1 c) (go ?_))
                rintro ⟨y, z⟩
                rw [e7, ht] at z
                cases z.2.2.2.1
                exact hxs z.2.2.2.2
          by_cases h11 : op c = 11
          · exact br_t (by rw [e4, h11]; rfl) (J50 (Or.inl h11))
          · refine br_f (by rw [e4, li_eq11 (by omega)]; exact h11) ⟨hin, ?_⟩
            by_cases h13 : op c = 13
            · exact br_t (by rw [e4, h13]; rfl) (J50 (Or.inr h13))
            · refine br_f (by rw [e4, li_eq13 (by omega)]; exact h13) (nm_r (nI_1 c) (go ?_))
              rintro ⟨x, z⟩
              exact z.2.2.1.elim h11 h13
        · exact br_t (by rw [e3]; exact hL) (nm_r (nI_1 c) (go (fun ⟨x, z⟩ => hL z.1)))
      · intro hcell
        exact br_t rfl (nm_r (nI_1 c) (go (fun ⟨x, z⟩ => hcell z.2.1)))
  exact ⟨193, key 192 0 (by omega) (fun j hj => absurd hj (Nat.not_lt_zero j))⟩
end
end
section
/-! Y: folding -/
def yf_R (yfd : Nat → Int32) (a b : Nat) : Prop := ¬ yfd (a * 12 + b) = 0
section
variable {mm ms mc nm M S F : Nat} {lk sa rn yb yac ypt yde yoc ypc : Int32} {me wk ft : Nat → Bool} {ow le op fm fn fs : Nat → Nat} {ar vl yld ytg ylv yfd yst ou : Nat → Int32}
theorem yy_dif {post : Int32 → Prop} {tg : Nat → Option Nat} {s t : Nat} (hS : S ≤ 12) (hnm : nm ≤ 16) (hce : ce_ok nm S le op ar) (hr : ∀ n, n < nm → ytg n = oI (tg n)) (hcx : ∀ c x, pd_ct op ar tg c = some x → x / 16 < S) (hs : s < 12) (ht : t < 12) (p1 : ¬ pf_al le op ar (pd_ct op ar tg) (yf_R yfd) s t → post 1) (p0 : pf_al le op ar (pd_ct op ar tg) (yf_R yfd) s t → post 0) : wpY_differ post (nI mm, nI ms, nI mc, nI nm, nI M, nI S, nI F, lk, sa, rn, yb, yac, ypt, yde, yoc, ypc, bA me, nA ow, nA le, nA op, ar, bA wk, vl, nA fm, nA fn, nA fs, bA ft, yld, ytg, ylv, yfd, yst, ou) (nI s) (nI t) := by
  have is : vp_in (nI s) 12 := vp_in_nI (by omega) (by omega)
  have it : vp_in (nI t) 12 := vp_in_nI (by omega) (by omega)
  have ezs : nA le (nI s).toNatClampNeg = nI (le s) := by rw [nI_clamp (by omega)]; rfl
  have ezt : nA le (nI t).toNatClampNeg = nI (le t) := by rw [nI_clamp (by omega)]; rfl
  have ls := hce.1 s
  have lt := hce.1 t
  by_cases hl : le s = le t
  · have key : ∀ d i, i + d = le s → (∀ o, o < i → pf_ca op ar (pd_ct op ar tg) (yf_R yfd) (s * 16 + o) (t * 16 + o)) → wY_differ_19 post (nI s) (nI t) (nI mm) (nI ms) (nI mc) (nI nm) (nI M) (nI S) (nI F) lk sa rn yb yac ypt yde yoc ypc (bA me) (nA ow) (nA le) (nA op) ar (bA wk) vl (nA fm) (nA fn) (nA fs) (bA ft) yld ytg ylv yfd yst ou (d + 1) (nI i) := by
      intro d
      induction d with
      | zero =>
        intro i hi h
        obtain rfl : i = le s := by omega
        exact ⟨is, br_t (by rw [ezs]; exact nI_le (Nat.le_refl _) (by omega)) (p0 ⟨hl, h⟩)⟩
      | succ d ih =>
        intro i hi h
        have h1 : ¬ nA le (nI s).toNatClampNeg ≤ nI i := by rw [ezs]; exact nI_ge (by omega) (by omega)
        have e2 : nI s * 16 + nI i = nI (s * 16 + i) := by rw [li_m16, nI_add]
        have e3 : nI t * 16 + nI i = nI (t * 16 + i) := by rw [li_m16, nI_add]
        have go : pf_ca op ar (pd_ct op ar tg) (yf_R yfd) (s * 16 + i) (t * 16 + i) → wY_differ_19 post (nI s) (nI t) (nI mm) (nI ms) (nI mc) (nI nm) (nI M) (nI S) (nI F) lk sa rn yb yac ypt yde yoc ypc (bA me) (nA ow) (nA le) (nA op) ar (bA wk) vl (nA fm) (nA fn) (nA fs) (bA ft) yld ytg ylv yfd yst ou (d + 1) (nI (i + 1)) := fun z => ih (i + 1) (by omega) (all_s h z)
        have no : ¬ pf_ca op ar (pd_ct op ar tg) (yf_R yfd) (s * 16 + i) (t * 16 + i) → post 1 := fun z => p1 (fun w => z (w.2 i (by omega)))
        refine ⟨is, br_f h1 (nm_r e2 (nm_r e3 ?_))⟩
        have ha : s * 16 + i < 192 := by omega
        have hb : t * 16 + i < 192 := by omega
        generalize s * 16 + i = a at ha go no
        generalize t * 16 + i = b at hb go no
        have ia : vp_in (nI a) 192 := vp_in_nI ha (by omega)
        have ib : vp_in (nI b) 192 := vp_in_nI hb (by omega)
        have ca := nI_clamp (n := a) (by omega)
        have cb := nI_clamp (n := b) (by omega)
        have oa := hce.2.2.1 a
        have ob := hce.2.2.1 b
        have ea : nA op (nI a).toNatClampNeg = nI (op a) := by rw [ca]; rfl
        have eb : nA op (nI b).toNatClampNeg = nI (op b) := by rw [cb]; rfl
        refine ⟨ia, ib, ?_⟩
        by_cases hop : op a = op b
        · refine br_t (by rw [ea, eb, hop]) ⟨ia, ?_⟩
          by_cases h7 : 7 ≤ op a
          · obtain ⟨k, hk, hka⟩ := hce.2.2.2 a h7
            obtain ⟨m, hm, hmb⟩ := hce.2.2.2 b (by omega)
            have ea6 : ar (nI a).toNatClampNeg = nI k := by rw [ca, hka]
            have eb6 : ar (nI b).toNatClampNeg = nI m := by rw [cb, hmb]
            have ea7 : pd_ct op ar tg a = tg k := pd_ctr h7 hka (by omega)
            have eb7 : pd_ct op ar tg b = tg m := pd_ctr (by omega) hmb (by omega)
            have ea8 : ytg (ar (nI a).toNatClampNeg).toNatClampNeg = oI (tg k) := by rw [ea6, nI_clamp (by omega), hr k hk]
            have eb8 : ytg (ar (nI b).toNatClampNeg).toNatClampNeg = oI (tg m) := by rw [eb6, nI_clamp (by omega), hr m hm]
            refine br_t (by rw [ea, li_el7 (by omega)]; exact h7) ⟨ia, by rw [ea6]; exact vp_in_nI (by omega) (by omega), nm_r ea8 ⟨ib, by rw [eb6]; exact vp_in_nI (by omega) (by omega), nm_r eb8 ?_⟩⟩
            cases hu : tg k with
            | none =>
              refine br_f (by decide) ?_
              cases hv : tg m with
              | none =>
                refine br_f (by decide) ?_
                exact br_t rfl (br_t (by decide) (nm_r (nI_1 i) (go ⟨hop, fun z => by omega, Or.inl ⟨ea7.trans hu, eb7.trans hv⟩⟩)))
              | some v =>
                have hv' := hcx b v (eb7.trans hv)
                refine br_t (by rw [oi_s]; exact nI_pos' (by omega)) ?_
                refine br_f (by decide) (no ?_)
                rintro ⟨_, _, ⟨z, w⟩ | ⟨u', v', z, _⟩⟩
                · rw [eb7, hv] at w; cases w
                · rw [ea7, hu] at z; cases z
            | some u =>
              have hu' := hcx a u (ea7.trans hu)
              refine br_t (by rw [oi_s]; exact nI_pos' (by omega)) ?_
              cases hv : tg m with
              | none =>
                refine br_f (by decide) ?_
                refine br_f (by decide) (no ?_)
                rintro ⟨_, _, ⟨z, w⟩ | ⟨u', v', z, w, _⟩⟩
                · rw [ea7, hu] at z; cases z
                · rw [eb7, hv] at w; cases w
              | some v =>
                have hv' := hcx b v (eb7.trans hv)
                refine br_t (by rw [oi_s]; exact nI_pos' (by omega)) ?_
                refine br_t rfl (br_f (by rw [oi_s]; exact nI_pos (by omega)) (br_f (by rw [oi_s]; exact nI_pos (by omega)) ?_))
                have e1 : oI (some u) &&& 15 = nI (u % 16) := li_an (by omega)
                have e2 : oI (some v) &&& 15 = nI (v % 16) := li_an (by omega)
                have e3 : oI (some u) >>> ((4 : Int32) &&& 31) = nI (u / 16) := li_sh (by omega)
                have e4 : oI (some v) >>> ((4 : Int32) &&& 31) = nI (v / 16) := li_sh (by omega)
                rw [e1, e2, e3, e4, li_m12, nI_add, nI_eq (by omega) (by omega), nI_clamp (n := u / 16 * 12 + v / 16) (by omega)]
                by_cases z1 : u % 16 = v % 16
                · refine br_t z1 ⟨vp_in_nI (by omega) (by omega), ?_⟩
                  by_cases z2 : yfd (u / 16 * 12 + v / 16) = 0
                  · refine br_t z2 (no ?_)
                    rintro ⟨_, _, ⟨z, w⟩ | ⟨u', v', z, w, _, y⟩⟩
                    · rw [ea7, hu] at z; cases z
                    · rw [ea7, hu] at z; rw [eb7, hv] at w; cases z; cases w
                      exact y z2
                  · exact br_f z2 (nm_r (nI_1 i) (go ⟨hop, fun z => by omega, Or.inr ⟨u, v, ea7.trans hu, eb7.trans hv, z1, z2⟩⟩))
                · refine br_f z1 (no ?_)
                  rintro ⟨_, _, ⟨z, w⟩ | ⟨u', v', z, w, y, _⟩⟩
                  · rw [ea7, hu] at z; cases z
                  · rw [ea7, hu] at z; rw [eb7, hv] at w; cases z; cases w
                    exact z1 y
          · refine br_f (by rw [ea, li_el7 (by omega)]; exact h7) ⟨ia, ib, ?_⟩
            rw [ca, cb]
            refine br_c (fun z => nm_r (nI_1 i) (go ⟨hop, fun _ => z, Or.inl ⟨pd_ctp (by omega), pd_ctp (by omega)⟩⟩)) (fun z => no ?_)
            rintro ⟨_, w, _⟩
            exact z (w (by omega))
        · exact br_f (by rw [ea, eb, nI_eq (by omega) (by omega)]; exact hop) (no (fun z => hop z.1))
    exact ⟨is, it, br_t (by rw [ezs, ezt, hl]) ⟨le s + 1, key (le s) 0 (by omega) (fun j hj => absurd hj (Nat.not_lt_zero j))⟩⟩
  · exact ⟨is, it, br_f (by rw [ezs, ezt, nI_eq (by omega) (by omega)]; exact hl) (p1 (fun z => hl z.1))⟩
/-- one pass over all pairs: what it did up to the pair (s, t) -/
def yf_inv (le op : Nat → Nat) (ar : Nat → Int32) (ct : Nat → Option Nat) (LV PN : Nat → Prop) (yfd fd1 : Nat → Int32) (D : Nat → Nat → Prop) : Prop :=
  (∀ j, ¬ fd1 j = 0 → ¬ yfd j = 0) ∧ (∀ a b, pf_gf le op ar ct LV PN a b → ¬ fd1 (a * 12 + b) = 0) ∧ (∀ a b, a < 12 → b < 12 → D a b → a ≠ b → ¬ fd1 (a * 12 + b) = 0 → pf_al le op ar ct (yf_R yfd) a b)
theorem yy_fd1 {post : SY → Prop} {J J2 : Int32 → (Nat → Int32) → (Nat → Int32) → (Nat → Int32) → (Nat → Int32) → (Nat → Int32) → (Nat → Int32) → (Nat → Int32) → (Nat → Int32) → (Nat → Int32) → (Nat → Int32) → (Nat → Int32) → (Nat → Int32) → (Nat → Int32) → (Nat → Int32) → (Nat → Int32) → (Nat → Int32) → (Nat → Int32) → Prop} {tg : Nat → Option Nat} {LV PN : Nat → Prop} {s r : Nat} {fd0 : Nat → Int32} (hS : S ≤ 12) (hnm : nm ≤ 16) (hce : ce_ok nm S le op ar) (hr : ∀ n, n < nm → ytg n = oI (tg n)) (hcx : ∀ c x, pd_ct op ar tg c = some x → x / 16 < S) (hlS : ∀ s, LV s → s < S) (hs : s < 12) (hJ : ∀ yfd, yf_inv le op ar (pd_ct op ar tg) LV PN fd0 yfd (fun a _ => a < s + 1) → J2 (nI (s + 1)) (bA me) (nA ow) (nA le) (nA op) ar (bA wk) vl (nA fm) (nA fn) (nA fs) (bA ft) yld ytg ylv yfd yst ou) : ∀ d t yfd, t + d = 12 → yf_inv le op ar (pd_ct op ar tg) LV PN fd0 yfd (fun a b => a < s ∨ (a = s ∧ b < t)) → wY_fold_102 post J J2 (nI r) (nI s) (nI mm) (nI ms) (nI mc) (nI nm) (nI M) (nI S) (nI F) lk sa rn yb yac ypt yde yoc ypc (d + 1) (nI t) (bA me) (nA ow) (nA le) (nA op) ar (bA wk) vl (nA fm) (nA fn) (nA fs) (bA ft) yld ytg ylv yfd yst ou := by
  intro d
  induction d with
  | zero =>
    intro t yfd ht h
    obtain rfl : t = 12 := by omega
    refine br_t (nI_le (a := 12) (Nat.le_refl _) (by decide)) (nm_r (nI_1 s) (hJ yfd ⟨h.1, h.2.1, ?_⟩))
    intro a b ha hb hD
    exact h.2.2 a b ha hb (by omega)
  | succ d ih =>
    intro t yfd ht h
    have e1 : nI s * 12 + nI t = nI (s * 12 + t) := by rw [li_m12, nI_add]
    have i1 : vp_in (nI s * 12 + nI t) 144 := by rw [e1]; exact vp_in_nI (by omega) (by omega)
    have c1 : (nI s * 12 + nI t).toNatClampNeg = s * 12 + t := by rw [e1, nI_clamp (by omega)]
    have go : (s ≠ t → ¬ yfd (s * 12 + t) = 0 → pf_al le op ar (pd_ct op ar tg) (yf_R fd0) s t) → wY_fold_102 post J J2 (nI r) (nI s) (nI mm) (nI ms) (nI mc) (nI nm) (nI M) (nI S) (nI F) lk sa rn yb yac ypt yde yoc ypc (d + 1) (nI (t + 1)) (bA me) (nA ow) (nA le) (nA op) ar (bA wk) vl (nA fm) (nA fn) (nA fs) (bA ft) yld ytg ylv yfd yst ou := by
      intro z
      refine ih (t + 1) yfd (by omega) ⟨h.1, h.2.1, ?_⟩
      intro a b ha hb hD hne hf
      by_cases e : a = s ∧ b = t
      · obtain ⟨rfl, rfl⟩ := e
        exact z hne hf
      · exact h.2.2 a b ha hb (by omega) hne hf
    refine br_f (nI_ge (b := 12) (by omega) (by decide)) ?_
    by_cases hst : s = t
    · exact br_t (by rw [hst]) (nm_r (nI_1 t) (go (fun z => absurd hst z)))
    · refine br_f (by rw [nI_eq (by omega) (by omega)]; exact hst) ⟨i1, ?_⟩
      rw [c1]
      by_cases hf : yfd (s * 12 + t) = 0
      · exact br_t hf (nm_r (nI_1 t) (go (fun _ z => absurd hf z)))
      · refine br_f hf (yy_dif (tg := tg) hS hnm hce hr hcx hs (by omega) ?_ ?_)
        · intro hna
          refine br_f (by decide) ⟨i1, nm_e (nm_r (nI_1 t) (ih (t + 1) _ (by omega) ⟨?_, ?_, ?_⟩))⟩
          · intro j hj
            by_cases e : j = s * 12 + t
            · rw [e]; exact h.1 _ hf
            · rw [pk_un e] at hj; exact h.1 j hj
          · intro a b hg
            have hg' := hg
            obtain ⟨⟨l1, l2, _⟩, l3⟩ := pf_gp a b hg
            have := hlS a l1
            have := hlS b l2
            by_cases e : a * 12 + b = s * 12 + t
            · exfalso
              have ea : a = s := by omega
              have eb : b = t := by omega
              subst ea
              subst eb
              rcases l3 with l3 | l3
              · exact hst l3
              · exact hna (pf_am (fun x y hxy => h.2.1 x y hxy) l3)
            · rw [pk_un e]
              exact h.2.1 a b hg'
          · intro a b ha hb hD hne hf2
            by_cases e : a * 12 + b = s * 12 + t
            · rw [e, pk_us] at hf2
              exact absurd rfl hf2
            · rw [pk_un e] at hf2
              exact h.2.2 a b ha hb (by omega) hne hf2
        · intro ha
          refine br_t rfl (nm_r (nI_1 t) (go (fun _ _ => ?_)))
          exact pf_am (fun x y hxy => h.1 _ hxy) ha
theorem yy_fd2 {post : SY → Prop} {J : Int32 → (Nat → Int32) → (Nat → Int32) → (Nat → Int32) → (Nat → Int32) → (Nat → Int32) → (Nat → Int32) → (Nat → Int32) → (Nat → Int32) → (Nat → Int32) → (Nat → Int32) → (Nat → Int32) → (Nat → Int32) → (Nat → Int32) → (Nat → Int32) → (Nat → Int32) → (Nat → Int32) → (Nat → Int32) → Prop} {tg : Nat → Option Nat} {LV PN : Nat → Prop} {r : Nat} {fd0 : Nat → Int32} (hS : S ≤ 12) (hnm : nm ≤ 16) (hce : ce_ok nm S le op ar) (hr : ∀ n, n < nm → ytg n = oI (tg n)) (hcx : ∀ c x, pd_ct op ar tg c = some x → x / 16 < S) (hlS : ∀ s, LV s → s < S) (hJ : ∀ yfd, yf_inv le op ar (pd_ct op ar tg) LV PN fd0 yfd (fun a _ => a < 12) → J (nI (r + 1)) (bA me) (nA ow) (nA le) (nA op) ar (bA wk) vl (nA fm) (nA fn) (nA fs) (bA ft) yld ytg ylv yfd yst ou) : ∀ d s yfd, s + d = 12 → yf_inv le op ar (pd_ct op ar tg) LV PN fd0 yfd (fun a _ => a < s) → wY_fold_94 post J (nI r) (nI mm) (nI ms) (nI mc) (nI nm) (nI M) (nI S) (nI F) lk sa rn yb yac ypt yde yoc ypc (d + 1) (nI s) (bA me) (nA ow) (nA le) (nA op) ar (bA wk) vl (nA fm) (nA fn) (nA fs) (bA ft) yld ytg ylv yfd yst ou := by
  intro d
  induction d with
  | zero =>
    intro s yfd hs h
    obtain rfl : s = 12 := by omega
    exact br_t (nI_le (a := 12) (Nat.le_refl _) (by decide)) (nm_r (nI_1 r) (hJ yfd h))
  | succ d ih =>
    intro s yfd hs h
    refine br_f (nI_ge (b := 12) (by omega) (by decide)) ⟨13, ?_⟩
    refine yy_fd1 (tg := tg) (LV := LV) (PN := PN) (fd0 := fd0) hS hnm hce hr hcx hlS (by omega) (fun yfd hi => ih (s + 1) yfd (by omega) hi) 12 0 yfd (by omega) ⟨h.1, h.2.1, ?_⟩
    intro a b ha hb hD
    exact h.2.2 a b ha hb (by omega)
def yf_ct (yfd : Nat → Int32) : Nat → Bool := fun j => decide (¬ yfd j = 0)
theorem yy_fd3 {post : SY → Prop} {tg : Nat → Option Nat} {LV PN : Nat → Prop} (hS : S ≤ 12) (hnm : nm ≤ 16) (hce : ce_ok nm S le op ar) (hr : ∀ n, n < nm → ytg n = oI (tg n)) (hcx : ∀ c x, pd_ct op ar tg c = some x → x / 16 < S) (hlS : ∀ s, LV s → s < S) (hp : ∀ yfd, (∀ s t, s < 12 → t < 12 → (¬ yfd (s * 12 + t) = 0 ↔ pf_gf le op ar (pd_ct op ar tg) LV PN s t)) → post (nI mm, nI ms, nI mc, nI nm, nI M, nI S, nI F, lk, sa, rn, yb, yac, ypt, yde, yoc, ypc, bA me, nA ow, nA le, nA op, ar, bA wk, vl, nA fm, nA fn, nA fs, bA ft, yld, ytg, ylv, yfd, yst, ou)) : ∀ d r yfd, r + d = 144 → (∀ s t, s < 12 → t < 12 → ¬ yfd (s * 12 + t) = 0 → pf_in LV PN s t) → (∀ s t, pf_gf le op ar (pd_ct op ar tg) LV PN s t → ¬ yfd (s * 12 + t) = 0) → ((∀ s t, s < 12 → t < 12 → ¬ yfd (s * 12 + t) = 0 → pf_gf le op ar (pd_ct op ar tg) LV PN s t) ∨ cb (yf_ct yfd) 144 + r ≤ 144) → wY_fold_85 post (nI mm) (nI ms) (nI mc) (nI nm) (nI M) (nI S) (nI F) lk sa rn yb yac ypt yde yoc ypc (d + 1) (nI r) (bA me) (nA ow) (nA le) (nA op) ar (bA wk) vl (nA fm) (nA fn) (nA fs) (bA ft) yld ytg ylv yfd yst ou := by
  intro d
  induction d with
  | zero =>
    intro r yfd hd h1 h2 h3
    obtain rfl : r = 144 := by omega
    refine br_t (nI_le (a := 144) (Nat.le_refl _) (by decide)) (hp yfd ?_)
    intro s t hs ht
    refine ⟨?_, h2 s t⟩
    rcases h3 with z | z
    · exact z s t hs ht
    · intro w
      have := cb_pos (p := yf_ct yfd) (a := s * 12 + t) (n := 144) (decide_eq_true w) (by omega)
      omega
  | succ d ih =>
    intro r yfd hd h1 h2 h3
    refine br_f (nI_ge (b := 144) (by omega) (by decide)) ⟨13, ?_⟩
    refine yy_fd2 (tg := tg) (LV := LV) (PN := PN) (fd0 := yfd) hS hnm hce hr hcx hlS ?_ 12 0 yfd (by omega) ⟨fun j h => h, h2, fun a b _ _ hD => absurd hD (Nat.not_lt_zero a)⟩
    intro fd' h
    refine ih (r + 1) fd' (by omega) (fun s t hs ht hf => h1 s t hs ht (h.1 _ hf)) h.2.1 ?_
    by_cases hall : ∀ s t, s < 12 → t < 12 → ¬ yfd (s * 12 + t) = 0 → pf_gf le op ar (pd_ct op ar tg) LV PN s t
    · exact Or.inl (fun s t hs ht hf => hall s t hs ht (h.1 _ hf))
    · right
      have hcnt := h3.resolve_left hall
      have hx : ∃ j, j < 144 ∧ ¬ yfd j = 0 ∧ fd' j = 0 := by
        apply Classical.byContradiction
        intro hno
        apply hall
        intro s t hs ht hf
        refine ⟨fun a b => a < 12 ∧ b < 12 ∧ ¬ yfd (a * 12 + b) = 0, ?_, hs, ht, hf⟩
        rintro a b ⟨ha, hb, hab⟩
        refine ⟨h1 a b ha hb hab, ?_⟩
        by_cases e : a = b
        · exact Or.inl e
        · right
          have hab' : ¬ fd' (a * 12 + b) = 0 := fun z => hno ⟨a * 12 + b, by omega, hab, z⟩
          have al := h.2.2 a b ha hb ha e hab'
          refine ⟨al.1, fun o ho => ?_⟩
          obtain ⟨z1, z2, z3⟩ := al.2 o ho
          refine ⟨z1, z2, ?_⟩
          rcases z3 with z3 | ⟨u, v, y1, y2, y3, y4⟩
          · exact Or.inl z3
          · have := hcx _ u y1
            have := hcx _ v y2
            exact Or.inr ⟨u, v, y1, y2, y3, by omega, by omega, y4⟩
      obtain ⟨j, j1, j2, j3⟩ := hx
      have := cb_lt (p := yf_ct fd') (q := yf_ct yfd) (a := j) (fun z => (of_decide_eq_true z) j3) (decide_eq_true j2) (n := 144) (fun i _ hi => decide_eq_true (h.1 i (of_decide_eq_true hi))) j1
      omega
theorem yy_fi1 {post : SY → Prop} {J : Int32 → (Nat → Int32) → (Nat → Int32) → (Nat → Int32) → (Nat → Int32) → (Nat → Int32) → (Nat → Int32) → (Nat → Int32) → (Nat → Int32) → (Nat → Int32) → (Nat → Int32) → (Nat → Int32) → (Nat → Int32) → (Nat → Int32) → (Nat → Int32) → (Nat → Int32) → (Nat → Int32) → (Nat → Int32) → Prop} {tg : Nat → Option Nat} {LV : Nat → Prop} {s : Nat} (hS : S ≤ 12) (hnm : nm ≤ 16) (hce : ce_ok nm S le op ar) (hr : ∀ n, n < nm → ytg n = oI (tg n)) (hcx : ∀ c x, pd_ct op ar tg c = some x → x / 16 < S) (hlv : ∀ s, s < 12 → (ylv s = 0 ↔ ¬ LV s)) (hs : s < 12) (hJ : ∀ yfd, (∀ a b, a < s + 1 → b < 12 → (¬ yfd (a * 12 + b) = 0 ↔ pf_in LV (pf_pn le op (pd_ct op ar tg) LV) a b)) → J (nI (s + 1)) (bA me) (nA ow) (nA le) (nA op) ar (bA wk) vl (nA fm) (nA fn) (nA fs) (bA ft) yld ytg ylv yfd yst ou) : ∀ d t yfd, t + d = 12 → (∀ a b, a < 12 → b < 12 → (a < s ∨ (a = s ∧ b < t)) → (¬ yfd (a * 12 + b) = 0 ↔ pf_in LV (pf_pn le op (pd_ct op ar tg) LV) a b)) → wY_fold_10 post J (nI s) (nI mm) (nI ms) (nI mc) (nI nm) (nI M) (nI S) (nI F) lk sa rn yb yac ypt yde yoc ypc (d + 1) (nI t) (bA me) (nA ow) (nA le) (nA op) ar (bA wk) vl (nA fm) (nA fn) (nA fs) (bA ft) yld ytg ylv yfd yst ou := by
  intro d
  induction d with
  | zero =>
    intro t yfd ht h
    obtain rfl : t = 12 := by omega
    refine br_t (nI_le (a := 12) (Nat.le_refl _) (by decide)) (nm_r (nI_1 s) (hJ yfd ?_))
    intro a b ha hb
    exact h a b (by omega) hb (by omega)
  | succ d ih =>
    intro t yfd ht h
    have e1 : nI s * 12 + nI t = nI (s * 12 + t) := by rw [li_m12, nI_add]
    have i1 : vp_in (nI s * 12 + nI t) 144 := by rw [e1]; exact vp_in_nI (by omega) (by omega)
    have c1 : (nI s * 12 + nI t).toNatClampNeg = s * 12 + t := by rw [e1, nI_clamp (by omega)]
    have is : vp_in (nI s) 12 := vp_in_nI (by omega) (by omega)
    have it : vp_in (nI t) 12 := vp_in_nI (by omega) (by omega)
    have cs := nI_clamp (n := s) (by omega)
    have ct := nI_clamp (n := t) (by omega)
    have put : ∀ v : Int32, (¬ v = 0 ↔ pf_in LV (pf_pn le op (pd_ct op ar tg) LV) s t) → wY_fold_10 post J (nI s) (nI mm) (nI ms) (nI mc) (nI nm) (nI M) (nI S) (nI F) lk sa rn yb yac ypt yde yoc ypc (d + 1) (nI (t + 1)) (bA me) (nA ow) (nA le) (nA op) ar (bA wk) vl (nA fm) (nA fn) (nA fs) (bA ft) yld ytg ylv (upd yfd (s * 12 + t) v) yst ou := by
      intro v hv
      refine ih (t + 1) _ (by omega) ?_
      intro a b ha hb hD
      by_cases e : a = s ∧ b = t
      · obtain ⟨rfl, rfl⟩ := e
        rw [pk_us]
        exact hv
      · rw [pk_un (by omega)]
        exact h a b ha hb (by omega)
    have f0 : (¬ pf_in LV (pf_pn le op (pd_ct op ar tg) LV) s t) → wY_fold_10 post J (nI s) (nI mm) (nI ms) (nI mc) (nI nm) (nI M) (nI S) (nI F) lk sa rn yb yac ypt yde yoc ypc (d + 1) (nI (t + 1)) (bA me) (nA ow) (nA le) (nA op) ar (bA wk) vl (nA fm) (nA fn) (nA fs) (bA ft) yld ytg ylv (upd yfd (s * 12 + t) 0) yst ou := fun z => put 0 ⟨fun w => absurd rfl w, fun w => absurd w z⟩
    have f1 : pf_in LV (pf_pn le op (pd_ct op ar tg) LV) s t → wY_fold_10 post J (nI s) (nI mm) (nI ms) (nI mc) (nI nm) (nI M) (nI S) (nI F) lk sa rn yb yac ypt yde yoc ypc (d + 1) (nI (t + 1)) (bA me) (nA ow) (nA le) (nA op) ar (bA wk) vl (nA fm) (nA fn) (nA fs) (bA ft) yld ytg ylv (upd yfd (s * 12 + t) 1) yst ou := fun z => put 1 ⟨fun _ => z, fun _ => by decide⟩
    refine br_f (nI_ge (b := 12) (by omega) (by decide)) ⟨is, ?_⟩
    rw [cs]
    by_cases hls : LV s
    · refine br_f (by rw [hlv s hs]; exact fun z => z hls) ⟨it, ?_⟩
      rw [ct]
      by_cases hlt : LV t
      · refine br_f (by rw [hlv t (by omega)]; exact fun z => z hlt) ?_
        by_cases hst : s = t
        · refine br_t (by rw [hst]) ⟨i1, nm_e (nm_r (nI_1 t) ?_)⟩
          rw [c1]
          exact f1 ⟨hls, hlt, Or.inl hst⟩
        · refine br_f (by rw [nI_eq (by omega) (by omega)]; exact hst) ?_
          refine yy_pinned (tg := tg) (LV := LV) hS hnm hce hr hcx hlv hs ?_ ?_
          · intro hp
            refine br_f (by decide) ⟨i1, nm_e (nm_r (nI_1 t) ?_)⟩
            rw [c1]
            exact f0 (fun z => z.2.2.elim hst (fun w => w.1 hp))
          · intro hp
            refine br_t rfl (yy_pinned (tg := tg) (LV := LV) hS hnm hce hr hcx hlv (by omega) ?_ ?_)
            · intro hq
              refine br_f (by decide) ⟨i1, nm_e (nm_r (nI_1 t) ?_)⟩
              rw [c1]
              exact f0 (fun z => z.2.2.elim hst (fun w => w.2 hq))
            · intro hq
              refine br_t rfl ⟨i1, nm_e (nm_r (nI_1 t) ?_)⟩
              rw [c1]
              exact f1 ⟨hls, hlt, Or.inr ⟨hp, hq⟩⟩
      · refine br_t (by rw [hlv t (by omega)]; exact hlt) ⟨i1, nm_e (nm_r (nI_1 t) ?_)⟩
        rw [c1]
        exact f0 (fun z => hlt z.2.1)
    · refine br_t (by rw [hlv s hs]; exact hls) ⟨i1, nm_e (nm_r (nI_1 t) ?_)⟩
      rw [c1]
      exact f0 (fun z => hls z.1)
theorem yy_fold {post : SY → Prop} {tg : Nat → Option Nat} {LV : Nat → Prop} (hS : S ≤ 12) (hnm : nm ≤ 16) (hce : ce_ok nm S le op ar) (hr : ∀ n, n < nm → ytg n = oI (tg n)) (hcx : ∀ c x, pd_ct op ar tg c = some x → x / 16 < S) (hlv : ∀ s, s < 12 → (ylv s = 0 ↔ ¬ LV s)) (hlS : ∀ s, LV s → s < S) (hp : ∀ yfd, (∀ s t, s < 12 → t < 12 → (¬ yfd (s * 12 + t) = 0 ↔ pf_gf le op ar (pd_ct op ar tg) LV (pf_pn le op (pd_ct op ar tg) LV) s t)) → post (nI mm, nI ms, nI mc, nI nm, nI M, nI S, nI F, lk, sa, rn, yb, yac, ypt, yde, yoc, ypc, bA me, nA ow, nA le, nA op, ar, bA wk, vl, nA fm, nA fn, nA fs, bA ft, yld, ytg, ylv, yfd, yst, ou)) : wpY_fold post (nI mm, nI ms, nI mc, nI nm, nI M, nI S, nI F, lk, sa, rn, yb, yac, ypt, yde, yoc, ypc, bA me, nA ow, nA le, nA op, ar, bA wk, vl, nA fm, nA fn, nA fs, bA ft, yld, ytg, ylv, yfd, yst, ou) := by
  have key : ∀ d s yfd, s + d = 12 → (∀ a b, a < s → b < 12 → (¬ yfd (a * 12 + b) = 0 ↔ pf_in LV (pf_pn le op (pd_ct op ar tg) LV) a b)) → wY_fold_2 post (nI mm) (nI ms) (nI mc) (nI nm) (nI M) (nI S) (nI F) lk sa rn yb yac ypt yde yoc ypc (d + 1) (nI s) (bA me) (nA ow) (nA le) (nA op) ar (bA wk) vl (nA fm) (nA fn) (nA fs) (bA ft) yld ytg ylv yfd yst ou := by
    intro d
    induction d with
    | zero =>
      intro s yfd hs h
      obtain rfl : s = 12 := by omega
      refine br_t (nI_le (a := 12) (Nat.le_refl _) (by decide)) ⟨145, ?_⟩
      refine yy_fd3 (tg := tg) (LV := LV) (PN := pf_pn le op (pd_ct op ar tg) LV) hS hnm hce hr hcx hlS hp 144 0 yfd (by omega) (fun a b ha hb => (h a b ha hb).mp) ?_ (Or.inr (cb_le _ _))
      intro a b hg
      obtain ⟨z, _⟩ := pf_gp a b hg
      have h1 := hlS a z.1
      have h2 := hlS b z.2.1
      exact (h a b (by omega) (by omega)).mpr z
    | succ d ih =>
      intro s yfd hs h
      refine br_f (nI_ge (b := 12) (by omega) (by decide)) ⟨13, ?_⟩
      refine yy_fi1 (tg := tg) (LV := LV) hS hnm hce hr hcx hlv (by omega) (fun yfd hi => ih (s + 1) yfd (by omega) hi) 12 0 yfd (by omega) ?_
      intro a b ha hb hD
      exact h a b (by omega) hb
  exact ⟨13, key 12 0 yfd (by omega) (fun a b hj => absurd hj (Nat.not_lt_zero a))⟩
end
end
section
/-! Y, linked: leader, place, address, word, peek -/
def yl_fd (S : Nat) (cls : Nat → Option Nat) (yfd : Nat → Int32) : Prop := ∀ s, s < S → (∀ p, cls s = some p → p < 12 ∧ ¬ yfd (s * 12 + p) = 0 ∧ ∀ j, j < p → yfd (s * 12 + j) = 0) ∧ (cls s = none → ∀ j, j < 12 → yfd (s * 12 + j) = 0)
theorem yl_of {S : Nat} {le op : Nat → Nat} {ar : Nat → Int32} {ct cls : Nat → Option Nat} {lv pn : Nat → Prop} {yfd : Nat → Int32} (hS : S ≤ 12) (hlS : ∀ s, lv s → s < S) (k : pf_ok le op ar ct lv pn cls) (b : pf_sb le op ar ct lv pn cls) (h : ∀ s t, s < 12 → t < 12 → (¬ yfd (s * 12 + t) = 0 ↔ pf_gf le op ar ct lv pn s t)) : yl_fd S cls yfd := by
  obtain ⟨k1, k2, k3, k4⟩ := k
  intro s hs
  refine ⟨?_, ?_⟩
  · intro p hp
    have ls : lv s := Classical.byContradiction (fun z => by rw [(k1 s).mpr z] at hp; cases hp)
    obtain ⟨p1, p2⟩ := k2 s p hp
    refine ⟨by omega, (h s p (by omega) (by omega)).mpr ((b s p ls).mpr (hp.trans p2.symm)), ?_⟩
    intro j hj
    apply Classical.byContradiction
    intro z
    have g := (h s j (by omega) (by omega)).mp z
    have e := (b s j ls).mp g
    have := (k2 j p (e.symm.trans hp)).1
    omega
  · intro hn j hj
    apply Classical.byContradiction
    intro z
    have g := (h s j (by omega) hj).mp z
    exact (k1 s).mp hn (pf_gp s j g).1.1
section
variable {mm ms mc nm M S F : Nat} {lk sa rn yb yac ypt yde yoc ypc : Int32} {me wk ft : Nat → Bool} {ow le op fm fn fs : Nat → Nat} {ar vl yld ytg ylv yfd yst ou : Nat → Int32}
theorem yy_leader {post : Int32 → Prop} {cls : Nat → Option Nat} {s : Nat} (hS : S ≤ 12) (hlk : ¬ lk = 0) (hfd : yl_fd S cls yfd) (hs : s < S) (p : post (oI (cls s))) : wpY_leader post (nI mm, nI ms, nI mc, nI nm, nI M, nI S, nI F, lk, sa, rn, yb, yac, ypt, yde, yoc, ypc, bA me, nA ow, nA le, nA op, ar, bA wk, vl, nA fm, nA fn, nA fs, bA ft, yld, ytg, ylv, yfd, yst, ou) (nI s) := by
  have key : ∀ d t, t + d = 12 → (∀ j, j < t → yfd (s * 12 + j) = 0) → wY_leader_24 post (nI s) (nI mm) (nI ms) (nI mc) (nI nm) (nI M) (nI S) (nI F) lk sa rn yb yac ypt yde yoc ypc (bA me) (nA ow) (nA le) (nA op) ar (bA wk) vl (nA fm) (nA fn) (nA fs) (bA ft) yld ytg ylv yfd yst ou (d + 1) (nI t) := by
    intro d
    induction d with
    | zero =>
      intro t ht h
      obtain rfl : t = 12 := by omega
      refine br_t (nI_le (a := 12) (Nat.le_refl _) (by decide)) ?_
      cases hc : cls s with
      | none => rw [hc] at p; exact p
      | some q =>
        obtain ⟨q1, q2, q3⟩ := (hfd s hs).1 q hc
        exact absurd (h q q1) q2
    | succ d ih =>
      intro t ht h
      have e1 : nI s * 12 + nI t = nI (s * 12 + t) := by rw [li_m12, nI_add]
      have i1 : vp_in (nI s * 12 + nI t) 144 := by rw [e1]; exact vp_in_nI (by omega) (by omega)
      have c1 : (nI s * 12 + nI t).toNatClampNeg = s * 12 + t := by rw [e1, nI_clamp (by omega)]
      refine br_f (nI_ge (b := 12) (by omega) (by decide)) ⟨i1, ?_⟩
      rw [c1]
      by_cases hf : yfd (s * 12 + t) = 0
      · exact br_t hf (nm_r (nI_1 t) (ih (t + 1) (by omega) (all_s h hf)))
      · refine br_f hf ?_
        cases hc : cls s with
        | none => exact absurd ((hfd s hs).2 hc t (by omega)) hf
        | some q =>
          obtain ⟨q1, q2, q3⟩ := (hfd s hs).1 q hc
          have : q = t := by
            rcases Nat.lt_trichotomy q t with z | z | z
            · exact absurd (h q z) q2
            · exact z
            · exact absurd (q3 t z) hf
          rw [hc, this, oi_s] at p
          exact p
  exact br_f hlk (br_f (nI_pos (by omega)) (br_t (nI_lt hs (by omega)) ⟨13, key 12 0 (by omega) (fun j hj => absurd hj (Nat.not_lt_zero j))⟩))
theorem yy_place {post : Int32 → Prop} {cls : Nat → Option Nat} {s : Nat} (hS : S ≤ 12) (hle : ∀ s, le s ≤ 12) (hlk : ¬ lk = 0) (hfd : yl_fd S cls yfd) (hcl : ∀ s p, cls s = some p → p ≤ s) (hs : s < S) (p : post (oI (ly_po cls le s))) : wpY_place post (nI mm, nI ms, nI mc, nI nm, nI M, nI S, nI F, lk, sa, rn, yb, yac, ypt, yde, yoc, ypc, bA me, nA ow, nA le, nA op, ar, bA wk, vl, nA fm, nA fn, nA fs, bA ft, yld, ytg, ylv, yfd, yst, ou) (nI s) := by
  unfold wpY_place
  refine yy_leader (cls := cls) hS hlk hfd hs ?_
  cases hc : cls s with
  | none =>
    rw [ly_pon hc] at p
    exact br_f (by decide) p
  | some q =>
    rw [ly_pos hc, oi_s] at p
    have hq := hcl s q hc
    have key : ∀ d t, t + d = q → wY_place_17 post (nI q) (nI mm) (nI ms) (nI mc) (nI nm) (nI M) (nI S) (nI F) lk sa rn yb yac ypt yde yoc ypc (bA me) (nA ow) (nA le) (nA op) ar (bA wk) vl (nA fm) (nA fn) (nA fs) (bA ft) yld ytg ylv yfd yst ou (d + 1) (nI (ly_nx cls le t)) (nI t) := by
      intro d
      induction d with
      | zero =>
        intro t ht
        obtain rfl : t = q := by omega
        exact br_t (nI_le (Nat.le_refl _) (by omega)) p
      | succ d ih =>
        intro t ht
        have hb := ly_bd (cls := cls) hle t
        refine br_f (nI_ge (by omega) (by omega)) (yy_leader (cls := cls) hS hlk hfd (by omega) ?_)
        have e : oI (cls t) = nI t ↔ cls t = some t := by
          rw [← oi_s t]
          exact oi_inj (fun p hp => by have := hcl t p hp; omega) (fun p hp => by cases hp; omega)
        by_cases hct : cls t = some t
        · refine br_t (e.mpr hct) ⟨vp_in_nI (by omega) (by omega), nm_r (e' := nI (ly_nx cls le (t + 1))) ?_ (nm_r (nI_1 t) (ih (t + 1) (by omega)))⟩
          rw [nI_clamp (by omega), na_ap, nI_1, nI_add, ly_st hct]
        · refine br_f (fun z => hct (e.mp z)) (nm_r (nI_1 t) ?_)
          rw [← ly_sn (le := le) hct]
          exact ih (t + 1) (by omega)
    refine br_t (by rw [oi_s]; exact nI_pos' (by omega)) ⟨q + 1, key q 0 (by omega)⟩
theorem yy_adr {post : Int32 → Prop} {cls : Nat → Option Nat} {x : Option Nat} (hS : S ≤ 12) (hle : ∀ s, le s ≤ 12) (hlk : ¬ lk = 0) (hfd : yl_fd S cls yfd) (hcl : ∀ s p, cls s = some p → p ≤ s) (hx : ∀ t, x = some t → t / 16 < S ∧ cls (t / 16) ≠ none) (p : post (nI (ly_ad cls le x))) : wpY_addressOf post (nI mm, nI ms, nI mc, nI nm, nI M, nI S, nI F, lk, sa, rn, yb, yac, ypt, yde, yoc, ypc, bA me, nA ow, nA le, nA op, ar, bA wk, vl, nA fm, nA fn, nA fs, bA ft, yld, ytg, ylv, yfd, yst, ou) (oI x) := by
  cases x with
  | none => exact br_f (by decide) p
  | some t =>
    obtain ⟨h1, h2⟩ := hx t rfl
    have e1 : nI t >>> ((4 : Int32) &&& 31) = nI (t / 16) := li_sh (by omega)
    have e2 : nI t &&& 15 = nI (t % 16) := li_an (by omega)
    cases hc : cls (t / 16) with
    | none => exact absurd hc h2
    | some q =>
      refine br_t (by rw [oi_s]; exact nI_pos' (by omega)) ?_
      rw [oi_s, e1, e2]
      refine yy_place (cls := cls) hS hle hlk hfd hcl h1 ?_
      rw [ly_pos hc, oi_s, nI_add]
      have e3 : ly_ad cls le (some t) = ly_nx cls le q + t % 16 := by
        show ly_ps cls le (t / 16) + t % 16 = _
        rw [ly_pss hc]
      rw [← e3]
      exact p
theorem yy_word {post : Int64 → Prop} {tg cls : Nat → Option Nat} {c a : Nat} (hS : S ≤ 12) (hnm : nm ≤ 16) (hce : ce_ok nm S le op ar) (hlk : ¬ lk = 0) (hr : ∀ n, n < nm → ytg n = oI (tg n)) (hcx : ∀ c x, pd_ct op ar tg c = some x → x / 16 < S) (hfd : yl_fd S cls yfd) (hcl : ∀ s p, cls s = some p → p ≤ s) (hc : c < 192) (hlv : ∀ x, pd_ct op ar tg c = some x → cls (x / 16) ≠ none) (p : post (ly_w op ar (pd_ct op ar tg) cls le c a)) : wpY_word post (nI mm, nI ms, nI mc, nI nm, nI M, nI S, nI F, lk, sa, rn, yb, yac, ypt, yde, yoc, ypc, bA me, nA ow, nA le, nA op, ar, bA wk, vl, nA fm, nA fn, nA fs, bA ft, yld, ytg, ylv, yfd, yst, ou) (nI c) (nI a) := by
  have hin : vp_in (nI c) 192 := vp_in_nI hc (by omega)
  have c0 := nI_clamp (n := c) (by omega)
  have oc := hce.2.2.1 c
  have e4 : nA op (nI c).toNatClampNeg = nI (op c) := by rw [c0]; rfl
  have k60 : ∀ x, x = ly_opd op ar (pd_ct op ar tg) cls le c a → wY_word_60 post (nI c) x (nI mm) (nI ms) (nI mc) (nI nm) (nI M) (nI S) (nI F) lk sa rn yb yac ypt yde yoc ypc (bA me) (nA ow) (nA le) (nA op) ar (bA wk) vl (nA fm) (nA fn) (nA fs) (bA ft) yld ytg ylv yfd yst ou := by
    intro x hx
    unfold wY_word_60
    refine ⟨hin, ?_⟩
    rw [e4, hx]
    exact p
  refine ⟨hin, nm_r (e' := ar c) (by rw [c0]) ⟨hin, ?_⟩⟩
  by_cases h7 : op c < 7
  · refine br_t (by rw [e4, li_lt7 (by omega)]; exact h7) ?_
    refine ⟨hin, br_f (by rw [e4, li_eq8 (by omega)]; omega) ⟨hin, br_f (by rw [e4, li_eq9 (by omega)]; omega) (k60 _ ?_)⟩⟩
    exact (if_pos h7).symm
  · obtain ⟨k, hk, ha⟩ := hce.2.2.2 c (by omega)
    have e6 : ar (nI c).toNatClampNeg = nI k := by rw [c0, ha]
    have e7 : pd_ct op ar tg c = tg k := pd_ctr (by omega) ha (by omega)
    have e8 : ytg (ar (nI c).toNatClampNeg).toNatClampNeg = oI (tg k) := by rw [e6, nI_clamp (by omega), hr k hk]
    refine br_f (by rw [e4, li_lt7 (by omega)]; exact h7) ⟨hin, by rw [e6]; exact vp_in_nI (by omega) (by omega), ?_⟩
    rw [e8, ← e7]
    refine yy_adr (cls := cls) hS hce.1 hlk hfd hcl (fun t ht => ⟨hcx c t ht, hlv t ht⟩) ?_
    by_cases h8 : op c = 8
    · refine ⟨hin, br_t (by rw [e4, h8]; rfl) (nm_e (k60 _ ?_))⟩
      unfold ly_opd
      rw [if_neg h7, if_pos (Or.inl h8)]
    · refine ⟨hin, br_f (by rw [e4, li_eq8 (by omega)]; exact h8) ⟨hin, ?_⟩⟩
      by_cases h9 : op c = 9
      · refine br_t (by rw [e4, h9]; rfl) (nm_e (k60 _ ?_))
        unfold ly_opd
        rw [if_neg h7, if_pos (Or.inr h9)]
      · refine br_f (by rw [e4, li_eq9 (by omega)]; exact h9) (k60 _ ?_)
        unfold ly_opd
        rw [if_neg h7, if_neg (fun z => z.elim h8 h9)]
theorem yy_peek {post : Int64 → Prop} {tg cls : Nat → Option Nat} {wd : Nat → Int64} {a : Nat} (hS : S ≤ 12) (hnm : nm ≤ 16) (hce : ce_ok nm S le op ar) (hlk : ¬ lk = 0) (hr : ∀ n, n < nm → ytg n = oI (tg n)) (hcx : ∀ c x, pd_ct op ar tg c = some x → x / 16 < S) (hfd : yl_fd S cls yfd) (k : lk_ok S le op ar (pd_ct op ar tg) cls) (hw : ly_wok op ar (pd_ct op ar tg) cls le wd S) (ha : a < 2 ^ 31) (p : post (if a < ly_nx cls le S then wd a else -2)) : wpY_peek post (nI mm, nI ms, nI mc, nI nm, nI M, nI S, nI F, lk, sa, rn, yb, yac, ypt, yde, yoc, ypc, bA me, nA ow, nA le, nA op, ar, bA wk, vl, nA fm, nA fn, nA fs, bA ft, yld, ytg, ylv, yfd, yst, ou) (nI a) := by
  have hcl : ∀ s p, cls s = some p → p ≤ s := fun s p h => (k.1 s p h).2.1
  have h1S := ly_1 (cls := cls) (le := le) S
  refine br_f hlk (br_t (nI_pos' ha) ?_)
  by_cases ha0 : a = 0
  · subst ha0
    rw [if_pos (by omega), hw.1] at p
    exact br_t rfl p
  · refine br_f (by rw [li_eq0 ha]; exact ha0) ⟨S + 1, ?_⟩
    have key : ∀ d i, i + d = S → (∀ s, s < i → cls s = some s → ¬ (ly_nx cls le s ≤ a ∧ a ≤ ly_nx cls le s + le s)) → wY_peek_23 post (nI a) (nI mm) (nI ms) (nI mc) (nI nm) (nI M) (nI S) (nI F) lk sa rn yb yac ypt yde yoc ypc (bA me) (nA ow) (nA le) (nA op) ar (bA wk) vl (nA fm) (nA fn) (nA fs) (bA ft) yld ytg ylv yfd yst ou (d + 1) (nI i) := by
      intro d
      induction d with
      | zero =>
        intro i hi h
        obtain rfl : i = S := by omega
        refine br_t (nI_le (Nat.le_refl _) (by omega)) ?_
        rw [if_neg] at p
        · exact p
        · intro z
          obtain ⟨s, s1, s2, s3, s4⟩ := ly_cov (by omega) z
          exact h s s1 s2 ⟨s3, s4⟩
      | succ d ih =>
        intro i hi h
        have hin : vp_in (nI i) 12 := vp_in_nI (by omega) (by omega)
        have c0 := nI_clamp (n := i) (by omega)
        have e1 : nA le (nI i).toNatClampNeg = nI (le i) := by rw [c0]; rfl
        have l := hce.1 i
        refine br_f (nI_ge (by omega) (by omega)) (yy_leader (cls := cls) hS hlk hfd (by omega) ?_)
        have e : oI (cls i) = nI i ↔ cls i = some i := by
          rw [← oi_s i]
          exact oi_inj (fun p hp => by have := hcl i p hp; omega) (fun p hp => by cases hp; omega)
        by_cases hct : cls i = some i
        · refine br_t (e.mpr hct) (yy_place (cls := cls) hS hce.1 hlk hfd hcl (by omega) ?_)
          rw [ly_pos hct, oi_s]
          have hb := ly_bd (cls := cls) hce.1 i
          have hlt := ly_lt (le := le) hct (by omega : i < S)
          rcases Nat.lt_or_ge a (ly_nx cls le i) with z | z
          · have neg : nI a - nI (ly_nx cls le i) < 0 := pk_sneg (by omega) z
            refine nm_e ⟨hin, ?_⟩
            rw [e1]
            refine br_f (fun w => nI_pos (n := le i) (by omega) (w ▸ neg)) (br_t neg (nm_r (nI_1 i) (ih (i + 1) (by omega) (all_s h ?_))))
            intro _ w
            omega
          · refine nm_r (pk_sub z) ⟨hin, ?_⟩
            rw [e1, nI_eq (by omega) (by omega)]
            have wdi := hw.2 i (by omega) hct
            by_cases z1 : a - ly_nx cls le i = le i
            · refine br_t z1 ?_
              have ea : a = ly_nx cls le i + le i := by omega
              rw [if_pos (by omega), ea, wdi.2] at p
              exact p
            · refine br_f z1 (br_f (nI_pos (by omega)) ⟨hin, ?_⟩)
              rw [nI_leI (by omega) (by omega)]
              by_cases z2 : le i ≤ a - ly_nx cls le i
              · refine br_t z2 (nm_r (nI_1 i) (ih (i + 1) (by omega) (all_s h ?_)))
                intro _ w
                omega
              · refine br_f z2 ?_
                rw [li_m16, nI_add]
                have dv := pf_dv i (a - ly_nx cls le i) (by omega)
                refine yy_word (tg := tg) (cls := cls) hS hnm hce hlk hr hcx hfd hcl (by omega) ?_ ?_
                · intro x hx
                  exact k.2.1 _ x (by rw [dv.1, hct]; exact fun z => by cases z) (by rw [dv.1, dv.2]; omega) hx
                · have ea : ly_nx cls le i + (a - ly_nx cls le i) = a := by omega
                  have := wdi.1 (a - ly_nx cls le i) (by omega)
                  rw [ea] at this
                  rw [if_pos (by omega), this] at p
                  exact p
        · exact br_f (fun z => hct (e.mp z)) (nm_r (nI_1 i) (ih (i + 1) (by omega) (all_s h (fun z => absurd z hct))))
    exact key S 0 (by omega) (fun j hj => absurd hj (Nat.not_lt_zero j))
end
end
section
/-! linking, each side against the pure picture -/
noncomputable def lk_LD (M : Nat) (dm wq : Nat → Nat → Bool) (me : Nat → Bool) (e : Nat) : Nat → Bool := pl_sq M dm wq e (fun m => !me m) 8
noncomputable def lk_tg (M : Nat) (dm ds wq : Nat → Nat → Bool) (dp : Nat → Nat → Nat) (me : Nat → Bool) (e n : Nat) : Option Nat := Classical.choose (pl_rsx M dm ds dp (lk_LD M dm wq me e) n)
theorem lk_tgs (M : Nat) (dm ds wq : Nat → Nat → Bool) (dp : Nat → Nat → Nat) (me : Nat → Bool) (e n : Nat) : pl_rs M dm ds dp (lk_LD M dm wq me e) n (lk_tg M dm ds wq dp me e n) := Classical.choose_spec (pl_rsx M dm ds dp (lk_LD M dm wq me e) n)
/-- the definitions: strong ones are definitions, each of a module and a name that are there, at a spot that is there -/
def dd_ok (M S nm : Nat) (le : Nat → Nat) (dm ds : Nat → Nat → Bool) (dp : Nat → Nat → Nat) : Prop := (∀ m n, ds m n = true → dm m n = true) ∧ (∀ m n, dm m n = true → m < M ∧ n < nm ∧ dp m n / 16 < S ∧ dp m n % 16 ≤ le (dp m n / 16))
def bx_ok (dn sn wn df : Nat → Int32) (dm ds wq : Nat → Nat → Bool) (dp : Nat → Nat → Nat) : Prop := (∀ m j, j < 32 → bt (dn m) j = dm m j) ∧ (∀ m j, j < 32 → bt (sn m) j = ds m j) ∧ (∀ m j, j < 32 → bt (wn m) j = wq m j) ∧ (∀ m j, dm m j = true → df (m * 16 + j) = nI (dp m j))
theorem lk_tgv {M S nm : Nat} {le : Nat → Nat} {dm ds wq : Nat → Nat → Bool} {dp : Nat → Nat → Nat} {me : Nat → Bool} {e : Nat} (hd : dd_ok M S nm le dm ds dp) {n x : Nat} (h : lk_tg M dm ds wq dp me e n = some x) : x / 16 < S ∧ x % 16 ≤ le (x / 16) := by
  rcases lk_tgs M dm ds wq dp me e n with ⟨m, a1, a2, a3, a4⟩ | ⟨a0, m, a1, a2, a3, a4, a5⟩ | ⟨a1, a2⟩
  · rw [h] at a4
    cases a4
    exact (hd.2 m n (hd.1 m n a3)).2.2
  · rw [h] at a5
    cases a5
    exact (hd.2 m n a3).2.2
  · rw [h] at a2
    cases a2
theorem lk_ctv {op : Nat → Nat} {ar : Nat → Int32} {tg : Nat → Option Nat} {c x : Nat} (h : pd_ct op ar tg c = some x) : ∃ n, tg n = some x := by
  by_cases z : op c < 7
  · rw [pd_ctp z] at h
    cases h
  · unfold pd_ct at h
    rw [if_neg z] at h
    exact ⟨_, h⟩
theorem lk_lvS {S : Nat} {le : Nat → Nat} {ct : Nat → Option Nat} {e0 : Nat} (h0 : e0 < S) (hcx : ∀ c x, ct c = some x → x / 16 < S) : ∀ s, pf_lv le ct e0 s → s < S := fun s h => h (fun s => s < S) h0 (fun c x _ _ h3 => hcx c x h3)
section
variable {mm ms mc nm M S : Nat} {lk es lc iz rn bi ac pt pc de oc : Int32} {me wk : Nat → Bool} {ow le op : Nat → Nat} {dn sn wn df ar ld rs lq il pn lo rf po st ou va : Nat → Int32} {wd : Nat → Int64}
theorem xx_unlink {post : SX → Prop} (p : post (nI mm, nI ms, nI mc, nI nm, nI M, nI S, 0, es, lc, iz, 0, bi, ac, pt, pc, de, oc, bA me, dn, sn, wn, df, nA ow, nA le, nA op, ar, bA wk, ld, rs, lq, il, pn, lo, rf, po, wd, st, ou, va)) : wpX_unlink post (nI mm, nI ms, nI mc, nI nm, nI M, nI S, lk, es, lc, iz, rn, bi, ac, pt, pc, de, oc, bA me, dn, sn, wn, df, nA ow, nA le, nA op, ar, bA wk, ld, rs, lq, il, pn, lo, rf, po, wd, st, ou, va) := p
theorem xx_link {post : Int32 → SX → Prop} {dm ds wq : Nat → Nat → Bool} {dp : Nat → Nat → Nat} {e : Nat} (hM : M ≤ 8) (hS : S ≤ 12) (hnm : nm ≤ 16) (he : e < nm) (hce : ce_ok nm S le op ar) (hd : dd_ok M S nm le dm ds dp) (hbx : bx_ok dn sn wn df dm ds wq dp)
    (p1 : pl_dup M ds (lk_LD M dm wq me e) → ∀ ld, post 1 (nI mm, nI ms, nI mc, nI nm, nI M, nI S, 0, es, lc, iz, 0, bi, ac, pt, pc, de, oc, bA me, dn, sn, wn, df, nA ow, nA le, nA op, ar, bA wk, ld, rs, lq, il, pn, lo, rf, po, wd, st, ou, va))
    (p2 : ¬ pl_dup M ds (lk_LD M dm wq me e) → (lk_tg M dm ds wq dp me e e = none ∨ ∃ t0, lk_tg M dm ds wq dp me e e = some t0 ∧ pf_bad le op (pd_ct op ar (lk_tg M dm ds wq dp me e)) wk (pf_lv le (pd_ct op ar (lk_tg M dm ds wq dp me e)) (t0 / 16))) → ∀ es lc ld rs lq il pn, post 2 (nI mm, nI ms, nI mc, nI nm, nI M, nI S, 0, es, lc, iz, 0, bi, ac, pt, pc, de, oc, bA me, dn, sn, wn, df, nA ow, nA le, nA op, ar, bA wk, ld, rs, lq, il, pn, lo, rf, po, wd, st, ou, va))
    (p0 : ¬ pl_dup M ds (lk_LD M dm wq me e) → ∀ t0, lk_tg M dm ds wq dp me e e = some t0 → ¬ pf_bad le op (pd_ct op ar (lk_tg M dm ds wq dp me e)) wk (pf_lv le (pd_ct op ar (lk_tg M dm ds wq dp me e)) (t0 / 16)) → ∀ cls lc ld rs lq il pn lo rf po wd, (∀ m, m < M → ld m = bI (lk_LD M dm wq me e m)) → (∀ n, n < nm → rs n = oI (lk_tg M dm ds wq dp me e n)) → pf_ok le op ar (pd_ct op ar (lk_tg M dm ds wq dp me e)) (pf_lv le (pd_ct op ar (lk_tg M dm ds wq dp me e)) (t0 / 16)) (pf_pn le op (pd_ct op ar (lk_tg M dm ds wq dp me e)) (pf_lv le (pd_ct op ar (lk_tg M dm ds wq dp me e)) (t0 / 16))) cls → pf_sb le op ar (pd_ct op ar (lk_tg M dm ds wq dp me e)) (pf_lv le (pd_ct op ar (lk_tg M dm ds wq dp me e)) (t0 / 16)) (pf_pn le op (pd_ct op ar (lk_tg M dm ds wq dp me e)) (pf_lv le (pd_ct op ar (lk_tg M dm ds wq dp me e)) (t0 / 16))) cls → (∀ s, s < S → lo s = oI (cls s)) → (∀ s, s < S → po s = oI (ly_po cls le s)) → ly_wok op ar (pd_ct op ar (lk_tg M dm ds wq dp me e)) cls le wd S → post 0 (nI mm, nI ms, nI mc, nI nm, nI M, nI S, 1, nI t0, lc, nI (ly_nx cls le S), 0, bi, ac, pt, pc, de, oc, bA me, dn, sn, wn, df, nA ow, nA le, nA op, ar, bA wk, ld, rs, lq, il, pn, lo, rf, po, wd, st, ou, va)) : wpX_link post (nI mm, nI ms, nI mc, nI nm, nI M, nI S, lk, es, lc, iz, rn, bi, ac, pt, pc, de, oc, bA me, dn, sn, wn, df, nA ow, nA le, nA op, ar, bA wk, ld, rs, lq, il, pn, lo, rf, po, wd, st, ou, va) (nI e) := by
  have hts := lk_tgs M dm ds wq dp me e
  have htv : ∀ n x, lk_tg M dm ds wq dp me e n = some x → x / 16 < S ∧ x % 16 ≤ le (x / 16) := fun n x h => lk_tgv hd h
  generalize hL : lk_LD M dm wq me e = L at p1 p2 p0 hts
  generalize lk_tg M dm ds wq dp me e = tg at p2 p0 hts htv
  have hcx : ∀ c x, pd_ct op ar tg c = some x → x / 16 < S := fun c x h => by
    obtain ⟨n, hn⟩ := lk_ctv h
    exact (htv n x hn).1
  obtain ⟨b1, b2, b3, b4⟩ := hbx
  have hdf : ∀ m j, dm m j = true → df (m * 16 + j) = nI (dp m j) ∧ dp m j < 192 := fun m j h => ⟨b4 m j h, by have := hd.2 m j h; omega⟩
  have hdb : ∀ m j, dm m j = true → j < 32 := fun m j h => by have := hd.2 m j h; omega
  have hsb : ∀ m j, ds m j = true → j < 32 := fun m j h => hdb m j (hd.1 m j h)
  unfold wpX_link
  refine xx_nameT he hnm (br_f (by decide) (xx_unlink ?_))
  refine xx_load (dm := dm) (wq := wq) hM (by omega) b3 b1 hdb ?_
  intro ld hld
  have hld : ∀ m, m < M → ld m = bI (L m) := fun m hm => by rw [← hL]; exact hld m hm
  refine xx_dup (ds := ds) (L := L) hM b2 hsb hld ?_ ?_
  · intro hdup
    exact br_f (by decide) (p1 hdup ld)
  · intro hnd
    refine br_t rfl (xx_res (dm := dm) (ds := ds) (dp := dp) (L := L) (tg := tg) hM hnm b2 b1 hd.1 hdf hld hnd hts ?_)
    intro rs hrs
    have cE := nI_clamp (n := e) (by omega)
    cases ht : tg e with
    | none =>
      refine ⟨vp_in_nI (by omega) (by omega), nm_r (e' := (-1 : Int32)) (by rw [cE, hrs e he, ht, oi_n]) (br_t (by decide) ?_)⟩
      exact p2 hnd (Or.inl ht) _ _ _ _ _ _ _
    | some t0 =>
      have ht0 := (htv e t0 ht).1
      have hlS := lk_lvS (le := le) ht0 hcx
      refine ⟨vp_in_nI (by omega) (by omega), nm_r (e' := nI t0) (by rw [cE, hrs e he, ht, oi_s]) (br_f (nI_pos (by omega)) ?_)⟩
      refine xx_coll (tg := tg) (t0 := t0) hS hnm hce hrs hcx ht0 ?_ ?_
      · intro hbad lc lq il pn
        exact br_t rfl (p2 hnd (Or.inr ⟨t0, ht, hbad⟩) _ _ _ _ _ _ _)
      · intro b q k lq il pn I hpn0 hb hnb
        refine br_f (by decide) ?_
        have hk : k ≤ S := by rw [I.2.2.1]; exact cb_le _ _
        have hil : ∀ s, s < S → (il s = 0 ↔ ¬ pf_lv le (pd_ct op ar tg) (t0 / 16) s) := by
          intro s hs
          rw [I.1 s hs, bi_0, ← hb s]
          exact ⟨bo_c, bo_n⟩
        refine xx_pin (tg := tg) (k := k) (q := q) (lv := pf_lv le (pd_ct op ar tg) (t0 / 16)) hS hnm hce hrs hcx (by omega) ?_ ?_ hpn0 ?_
        · intro j hj
          obtain ⟨z1, z2⟩ := I.2.2.2.1 j hj
          exact ⟨z1, (I.2.1 _ z2).1⟩
        · intro s
          rw [← hb s]
          refine ⟨I.2.2.2.2 s, ?_⟩
          rintro ⟨j, j1, j2⟩
          rw [← j2]
          exact (I.2.2.2.1 j j1).2
        · intro pn hpn
          refine xx_fold (tg := tg) (lv := pf_lv le (pd_ct op ar tg) (t0 / 16)) (pp := pf_pn le op (pd_ct op ar tg) (pf_lv le (pd_ct op ar tg) (t0 / 16))) (e0 := t0 / 16) hS hnm hce hrs hcx hil hpn hlS pf_lc pf_l0 ?_
          intro cls lo rf hk1 hk2 hlo
          refine xx_lay (cls := cls) hS hce.1 ?_ hlo hk1.2.1 ?_
          · intro s hs
            rw [hil s hs, hk1.1 s]
          · intro po hpo
            refine xx_pt (tg := tg) (cls := cls) hS hnm hce hrs hcx hlo hpo (lk_of hlS pf_lc hk1 hk2) ?_
            intro wd hwd
            exact p0 hnd t0 ht hnb cls _ _ _ _ _ _ _ _ _ _ hld hrs hk1 hk2 hlo hpo hwd
theorem xx_linkF {post : Int32 → SX → Prop} {x : Int32} (h : x < 0 ∨ nI nm ≤ x) (p : post (-2) (nI mm, nI ms, nI mc, nI nm, nI M, nI S, lk, es, lc, iz, rn, bi, ac, pt, pc, de, oc, bA me, dn, sn, wn, df, nA ow, nA le, nA op, ar, bA wk, ld, rs, lq, il, pn, lo, rf, po, wd, st, ou, va)) : wpX_link post (nI mm, nI ms, nI mc, nI nm, nI M, nI S, lk, es, lc, iz, rn, bi, ac, pt, pc, de, oc, bA me, dn, sn, wn, df, nA ow, nA le, nA op, ar, bA wk, ld, rs, lq, il, pn, lo, rf, po, wd, st, ou, va) x := by
  unfold wpX_link
  exact xx_nameF h (br_t rfl p)
end
section
variable {mm ms mc nm M S F : Nat} {lk sa rn yb yac ypt yde yoc ypc : Int32} {me wk ft : Nat → Bool} {ow le op fm fn fs : Nat → Nat} {ar vl yld ytg ylv yfd yst ou : Nat → Int32}
theorem yy_unlink {post : SY → Prop} (p : post (nI mm, nI ms, nI mc, nI nm, nI M, nI S, nI F, 0, sa, 0, yb, yac, ypt, yde, yoc, ypc, bA me, nA ow, nA le, nA op, ar, bA wk, vl, nA fm, nA fn, nA fs, bA ft, yld, ytg, ylv, yfd, yst, ou)) : wpY_unlink post (nI mm, nI ms, nI mc, nI nm, nI M, nI S, nI F, lk, sa, rn, yb, yac, ypt, yde, yoc, ypc, bA me, nA ow, nA le, nA op, ar, bA wk, vl, nA fm, nA fn, nA fs, bA ft, yld, ytg, ylv, yfd, yst, ou) := p
theorem yy_link {post : Int32 → SY → Prop} {dm ds wq : Nat → Nat → Bool} {dp : Nat → Nat → Nat} {e : Nat} (hM : M ≤ 8) (hS : S ≤ 12) (hnm : nm ≤ 16) (he : e < nm) (hce : ce_ok nm S le op ar) (how : ∀ s, s < S → ow s < M) (hd : dd_ok M S nm le dm ds dp) (hf : fr_ok M nm F fm fn fs ft dm ds dp) (hwq : wq_ok ow le op ar wk wq)
    (p1 : pl_dup M ds (lk_LD M dm wq me e) → ∀ yld, post 1 (nI mm, nI ms, nI mc, nI nm, nI M, nI S, nI F, 0, nI e, 0, yb, yac, ypt, yde, yoc, ypc, bA me, nA ow, nA le, nA op, ar, bA wk, vl, nA fm, nA fn, nA fs, bA ft, yld, ytg, ylv, yfd, yst, ou))
    (p2 : ¬ pl_dup M ds (lk_LD M dm wq me e) → (lk_tg M dm ds wq dp me e e = none ∨ ∃ t0, lk_tg M dm ds wq dp me e e = some t0 ∧ pf_bad le op (pd_ct op ar (lk_tg M dm ds wq dp me e)) wk (pf_lv le (pd_ct op ar (lk_tg M dm ds wq dp me e)) (t0 / 16))) → ∀ yld ytg ylv, post 2 (nI mm, nI ms, nI mc, nI nm, nI M, nI S, nI F, 0, nI e, 0, yb, yac, ypt, yde, yoc, ypc, bA me, nA ow, nA le, nA op, ar, bA wk, vl, nA fm, nA fn, nA fs, bA ft, yld, ytg, ylv, yfd, yst, ou))
    (p0 : ¬ pl_dup M ds (lk_LD M dm wq me e) → ∀ t0, lk_tg M dm ds wq dp me e e = some t0 → ¬ pf_bad le op (pd_ct op ar (lk_tg M dm ds wq dp me e)) wk (pf_lv le (pd_ct op ar (lk_tg M dm ds wq dp me e)) (t0 / 16)) → ∀ yld ytg ylv yfd, (∀ m, m < M → yld m = bI (lk_LD M dm wq me e m)) → (∀ n, n < 16 → ytg n = oI (lk_tg M dm ds wq dp me e n)) → (∀ s t, s < 12 → t < 12 → (¬ yfd (s * 12 + t) = 0 ↔ pf_gf le op ar (pd_ct op ar (lk_tg M dm ds wq dp me e)) (pf_lv le (pd_ct op ar (lk_tg M dm ds wq dp me e)) (t0 / 16)) (pf_pn le op (pd_ct op ar (lk_tg M dm ds wq dp me e)) (pf_lv le (pd_ct op ar (lk_tg M dm ds wq dp me e)) (t0 / 16))) s t)) → post 0 (nI mm, nI ms, nI mc, nI nm, nI M, nI S, nI F, 1, nI e, 0, yb, yac, ypt, yde, yoc, ypc, bA me, nA ow, nA le, nA op, ar, bA wk, vl, nA fm, nA fn, nA fs, bA ft, yld, ytg, ylv, yfd, yst, ou)) : wpY_link post (nI mm, nI ms, nI mc, nI nm, nI M, nI S, nI F, lk, sa, rn, yb, yac, ypt, yde, yoc, ypc, bA me, nA ow, nA le, nA op, ar, bA wk, vl, nA fm, nA fn, nA fs, bA ft, yld, ytg, ylv, yfd, yst, ou) (nI e) := by
  have hts := lk_tgs M dm ds wq dp me e
  have htv : ∀ n x, lk_tg M dm ds wq dp me e n = some x → x / 16 < S ∧ x % 16 ≤ le (x / 16) := fun n x h => lk_tgv hd h
  generalize hL : lk_LD M dm wq me e = L at p1 p2 p0 hts
  generalize lk_tg M dm ds wq dp me e = tg at p2 p0 hts htv
  have hcx : ∀ c x, pd_ct op ar tg c = some x → x / 16 < S := fun c x h => by
    obtain ⟨n, hn⟩ := lk_ctv h
    exact (htv n x hn).1
  have hdn : ∀ m n, dm m n = true → n < nm := fun m n h => (hd.2 m n h).2.1
  refine br_f (nI_pos (by omega)) (br_t (nI_lt he (by omega)) (yy_unlink ?_))
  refine yy_load (dm := dm) (ds := ds) (dp := dp) (wq := wq) hM hS hnm hce how hf hwq hdn (by omega) ?_
  intro yld hld
  have hld : ∀ m, m < M → yld m = bI (L m) := fun m hm => by rw [← hL]; exact hld m hm
  refine yy_dup (dm := dm) (ds := ds) (dp := dp) (L := L) hM hnm hf hd.1 hld ?_ ?_
  · intro hdup
    exact p1 hdup yld
  · intro hnd
    have key : ∀ d i ytg, i + d = 16 → (∀ n, n < i → ytg n = oI (tg n)) → wY_link_122 post (nI mm) (nI ms) (nI mc) (nI nm) (nI M) (nI S) (nI F) 0 (nI e) 0 yb yac ypt yde yoc ypc (d + 1) (nI i) (bA me) (nA ow) (nA le) (nA op) ar (bA wk) vl (nA fm) (nA fn) (nA fs) (bA ft) yld ytg ylv yfd yst ou := by
      intro d
      induction d with
      | zero =>
        intro i ytg hi hr16
        obtain rfl : i = 16 := by omega
        have hr : ∀ n, n < nm → ytg n = oI (tg n) := fun n hn => hr16 n (by omega)
        refine br_t (nI_le (a := 16) (Nat.le_refl _) (by decide)) ?_
        cases ht : tg e with
        | none =>
          refine yy_collN (tg := tg) hnm hr he ht ?_
          exact br_t rfl (p2 hnd (Or.inl ht) _ _ _)
        | some t0 =>
          have ht0 := (htv e t0 ht).1
          have hlS := lk_lvS (le := le) ht0 hcx
          refine yy_coll (tg := tg) (t0 := t0) hS hnm hce hr hcx he ht ht0 hlS ?_ ?_
          · intro hbad ylv
            exact br_t rfl (p2 hnd (Or.inr ⟨t0, ht, hbad⟩) _ _ _)
          · intro hnb ylv hlv
            refine br_f (by decide) (yy_fold (tg := tg) (LV := pf_lv le (pd_ct op ar tg) (t0 / 16)) hS hnm hce hr hcx hlv hlS ?_)
            intro yfd hfd
            exact p0 hnd t0 ht hnb _ _ _ _ hld hr16 hfd
      | succ d ih =>
        intro i ytg hi hr
        refine br_f (nI_ge (b := 16) (by omega) (by decide)) (yy_spot (dm := dm) (ds := ds) (dp := dp) (L := L) hM hnm (by omega) hf hd.1 hld ?_)
        intro o ho
        refine ⟨vp_in_nI (by omega) (by omega), nm_e (nm_r (nI_1 i) (ih (i + 1) _ (by omega) ?_))⟩
        rw [nI_clamp (by omega)]
        refine all_s (fun n hn => ?_) (by rw [pk_us, pl_rsu hd.1 hnd ho (hts i)])
        rw [pk_un (by omega)]
        exact hr n hn
    exact ⟨17, key 16 0 ytg (by omega) (fun j hj => absurd hj (Nat.not_lt_zero j))⟩
end
end
section
/-! the relation -/
def rb_ok (mm ms mc nm M S F : Nat) (ow le op : Nat → Nat) (ar : Nat → Int32) (wk : Nat → Bool) (fm fn fs : Nat → Nat) (ft : Nat → Bool) (dn sn wn df : Nat → Int32) (dm ds wq : Nat → Nat → Bool) (dp : Nat → Nat → Nat) : Prop :=
  (mm ≤ 8 ∧ ms ≤ 12 ∧ mc ≤ 12 ∧ nm ≤ 16 ∧ M ≤ mm ∧ S ≤ ms) ∧ ce_ok nm S le op ar ∧ (∀ s, s < S → ow s < M) ∧ dd_ok M S nm le dm ds dp ∧ bx_ok dn sn wn df dm ds wq dp ∧ fr_ok M nm F fm fn fs ft dm ds dp ∧ wq_ok ow le op ar wk wq
/-- a spot as X keeps it: an address or a code -/
def sp_x (b : Bool) (cls : Nat → Option Nat) (le : Nat → Nat) (x : Option Nat) : Int32 := if b = true then nI (ly_ad cls le x) else oI x
/-- a spot that may be reached -/
def sp_ok (cls : Nat → Option Nat) (le : Nat → Nat) (x : Option Nat) : Prop := ∀ t, x = some t → cls (t / 16) ≠ none ∧ t % 16 ≤ le (t / 16)
def rk_ok (nm M S : Nat) (es iz sa : Int32) (le op : Nat → Nat) (ar ld rs lo po : Nat → Int32) (wd : Nat → Int64) (yld ytg yfd : Nat → Int32) (tg cls : Nat → Option Nat) (t0 e : Nat) : Prop :=
  (sa = nI e ∧ e < nm ∧ es = nI t0 ∧ tg e = some t0 ∧ cls (t0 / 16) ≠ none) ∧ (∀ m, m < M → ld m = yld m) ∧ (∀ n, n < nm → rs n = oI (tg n)) ∧ (∀ n, n < nm → ytg n = oI (tg n)) ∧ (∀ n x, tg n = some x → x / 16 < S ∧ x % 16 ≤ le (x / 16)) ∧ lk_ok S le op ar (pd_ct op ar tg) cls ∧ (∀ s, s < S → lo s = oI (cls s)) ∧ (∀ s, s < S → po s = oI (ly_po cls le s)) ∧ iz = nI (ly_nx cls le S) ∧ ly_wok op ar (pd_ct op ar tg) cls le wd S ∧ yl_fd S cls yfd
def rr_ok (rn bi pc oc yb yoc ypc : Int32) (le : Nat → Nat) (cls : Nat → Option Nat) : Prop :=
  rn = 0 ∨ (rn = 1 ∧ ∃ (b : Bool) (x : Option Nat) (k : Nat), bi = bI b ∧ yb = bI b ∧ oc = nI k ∧ yoc = nI k ∧ k ≤ 16 ∧ pc = sp_x b cls le x ∧ ypc = oI x ∧ sp_ok cls le x)
def rl_ok (nm M S : Nat) (lk es iz rn bi pc oc sa yb yoc ypc : Int32) (le op : Nat → Nat) (ar ld rs lo po : Nat → Int32) (wd : Nat → Int64) (yld ytg yfd : Nat → Int32) : Prop :=
  (lk = 0 ∧ rn = 0) ∨ (lk = 1 ∧ ∃ (tg cls : Nat → Option Nat) (t0 e : Nat), rk_ok nm M S es iz sa le op ar ld rs lo po wd yld ytg yfd tg cls t0 e ∧ rr_ok rn bi pc oc yb yoc ypc le cls)
def i_Rel (_ : Nat) (u : SX) (v : SY) : Prop := ∃ (mm ms mc nm M S F : Nat) (lk es lc iz rn bi ac pt pc de oc sa yb yac ypt yde yoc ypc : Int32) (me wk ft : Nat → Bool) (ow le op fm fn fs : Nat → Nat) (dn sn wn df ar ld rs lq il pn lo rf po st ou va vl yld ytg ylv yfd yst : Nat → Int32) (wd : Nat → Int64) (dm ds wq : Nat → Nat → Bool) (dp : Nat → Nat → Nat), u = (nI mm, nI ms, nI mc, nI nm, nI M, nI S, lk, es, lc, iz, rn, bi, ac, pt, pc, de, oc, bA me, dn, sn, wn, df, nA ow, nA le, nA op, ar, bA wk, ld, rs, lq, il, pn, lo, rf, po, wd, st, ou, va) ∧ v = (nI mm, nI ms, nI mc, nI nm, nI M, nI S, nI F, lk, sa, rn, yb, yac, ypt, yde, yoc, ypc, bA me, nA ow, nA le, nA op, ar, bA wk, vl, nA fm, nA fn, nA fs, bA ft, yld, ytg, ylv, yfd, yst, ou) ∧ rb_ok mm ms mc nm M S F ow le op ar wk fm fn fs ft dn sn wn df dm ds wq dp ∧ rl_ok nm M S lk es iz rn bi pc oc sa yb yoc ypc le op ar ld rs lo po wd yld ytg yfd
theorem i_up {k : Nat} {u : SX} {v : SY} (h : i_Rel k u v) : i_Rel (k + 4) u v := h
theorem zz_in {k : Nat} {mm ms mc nm M S F : Nat} {lk es lc iz rn bi ac pt pc de oc sa yb yac ypt yde yoc ypc : Int32} {me wk ft : Nat → Bool} {ow le op fm fn fs : Nat → Nat} {dn sn wn df ar ld rs lq il pn lo rf po st ou va vl yld ytg ylv yfd yst : Nat → Int32} {wd : Nat → Int64} {dm ds wq : Nat → Nat → Bool} {dp : Nat → Nat → Nat} (h : rb_ok mm ms mc nm M S F ow le op ar wk fm fn fs ft dn sn wn df dm ds wq dp) (g : rl_ok nm M S lk es iz rn bi pc oc sa yb yoc ypc le op ar ld rs lo po wd yld ytg yfd) : i_Rel k (nI mm, nI ms, nI mc, nI nm, nI M, nI S, lk, es, lc, iz, rn, bi, ac, pt, pc, de, oc, bA me, dn, sn, wn, df, nA ow, nA le, nA op, ar, bA wk, ld, rs, lq, il, pn, lo, rf, po, wd, st, ou, va) (nI mm, nI ms, nI mc, nI nm, nI M, nI S, nI F, lk, sa, rn, yb, yac, ypt, yde, yoc, ypc, bA me, nA ow, nA le, nA op, ar, bA wk, vl, nA fm, nA fn, nA fs, bA ft, yld, ytg, ylv, yfd, yst, ou) := ⟨_, _, _, _, _, _, _, _, _, _, _, _, _, _, _, _, _, _, _, _, _, _, _, _, _, _, _, _, _, _, _, _, _, _, _, _, _, _, _, _, _, _, _, _, _, _, _, _, _, _, _, _, _, _, _, _, _, _, _, _, _, rfl, rfl, h, g⟩
theorem zz_el {P : SX → SY → Prop} {k : Nat} {u : SX} {v : SY} (h : ∀ (mm ms mc nm M S F : Nat) (lk es lc iz rn bi ac pt pc de oc sa yb yac ypt yde yoc ypc : Int32) (me wk ft : Nat → Bool) (ow le op fm fn fs : Nat → Nat) (dn sn wn df ar ld rs lq il pn lo rf po st ou va vl yld ytg ylv yfd yst : Nat → Int32) (wd : Nat → Int64) (dm ds wq : Nat → Nat → Bool) (dp : Nat → Nat → Nat), rb_ok mm ms mc nm M S F ow le op ar wk fm fn fs ft dn sn wn df dm ds wq dp → rl_ok nm M S lk es iz rn bi pc oc sa yb yoc ypc le op ar ld rs lo po wd yld ytg yfd → P (nI mm, nI ms, nI mc, nI nm, nI M, nI S, lk, es, lc, iz, rn, bi, ac, pt, pc, de, oc, bA me, dn, sn, wn, df, nA ow, nA le, nA op, ar, bA wk, ld, rs, lq, il, pn, lo, rf, po, wd, st, ou, va) (nI mm, nI ms, nI mc, nI nm, nI M, nI S, nI F, lk, sa, rn, yb, yac, ypt, yde, yoc, ypc, bA me, nA ow, nA le, nA op, ar, bA wk, vl, nA fm, nA fn, nA fs, bA ft, yld, ytg, ylv, yfd, yst, ou)) (I : i_Rel k u v) : P u v :=
  Exists.elim I fun mm I => Exists.elim I fun ms I => Exists.elim I fun mc I => Exists.elim I fun nm I => Exists.elim I fun M I => Exists.elim I fun S I => Exists.elim I fun F I => Exists.elim I fun lk I => Exists.elim I fun es I => Exists.elim I fun lc I => Exists.elim I fun iz I => Exists.elim I fun rn I => Exists.elim I fun bi I => Exists.elim I fun ac I => Exists.elim I fun pt I => Exists.elim I fun pc I => Exists.elim I fun de I => Exists.elim I fun oc I => Exists.elim I fun sa I => Exists.elim I fun yb I => Exists.elim I fun yac I => Exists.elim I fun ypt I => Exists.elim I fun yde I => Exists.elim I fun yoc I => Exists.elim I fun ypc I => Exists.elim I fun me I => Exists.elim I fun wk I => Exists.elim I fun ft I => Exists.elim I fun ow I => Exists.elim I fun le I => Exists.elim I fun op I => Exists.elim I fun fm I => Exists.elim I fun fn I => Exists.elim I fun fs I => Exists.elim I fun dn I => Exists.elim I fun sn I => Exists.elim I fun wn I => Exists.elim I fun df I => Exists.elim I fun ar I => Exists.elim I fun ld I => Exists.elim I fun rs I => Exists.elim I fun lq I => Exists.elim I fun il I => Exists.elim I fun pn I => Exists.elim I fun lo I => Exists.elim I fun rf I => Exists.elim I fun po I => Exists.elim I fun st I => Exists.elim I fun ou I => Exists.elim I fun va I => Exists.elim I fun vl I => Exists.elim I fun yld I => Exists.elim I fun ytg I => Exists.elim I fun ylv I => Exists.elim I fun yfd I => Exists.elim I fun yst I => Exists.elim I fun wd I => Exists.elim I fun dm I => Exists.elim I fun ds I => Exists.elim I fun wq I => Exists.elim I fun dp I =>  I.1.symm ▸ I.2.1.symm ▸ h mm ms mc nm M S F lk es lc iz rn bi ac pt pc de oc sa yb yac ypt yde yoc ypc me wk ft ow le op fm fn fs dn sn wn df ar ld rs lq il pn lo rf po st ou va vl yld ytg ylv yfd yst wd dm ds wq dp I.2.2.1 I.2.2.2
end
section
/-! the constructors and the simple methods -/
def cl_v (p g : Int32) : Int32 := if 1 ≤ p then (if p ≤ g then p else g) else 1
theorem cl_x {post : Int32 → Prop} {u : SX} {p g : Int32} (h : post (cl_v p g)) : wpX_clamp post u p 1 g := by
  unfold cl_v at h
  by_cases h1 : 1 ≤ p
  · rw [if_pos h1] at h
    by_cases h2 : p ≤ g
    · rw [if_pos h2] at h
      exact br_t h1 (br_t h2 h)
    · rw [if_neg h2] at h
      exact br_t h1 (br_f h2 h)
  · rw [if_neg h1] at h
    exact br_f h1 h
theorem cl_y {post : Int32 → Prop} {u : SY} {p g : Int32} (h : post (cl_v p g)) : wpY_clamp post u p g := by
  unfold cl_v at h
  by_cases h1 : 1 ≤ p
  · rw [if_pos h1] at h
    by_cases h2 : p ≤ g
    · rw [if_pos h2] at h
      exact br_t h1 (br_t h2 h)
    · rw [if_neg h2] at h
      exact br_t h1 (br_f h2 h)
  · rw [if_neg h1] at h
    exact br_f h1 h
theorem cl_n (p : Int32) {g : Nat} (h1 : 1 ≤ g) (hg : g < 2 ^ 31) : ∃ n, 1 ≤ n ∧ n ≤ g ∧ cl_v p (nI g) = nI n := by
  unfold cl_v
  by_cases h : 1 ≤ p
  · rw [if_pos h]
    have h0 : ¬ p < 0 := by
      intro z
      rw [Int32.lt_iff_toInt_lt] at z
      rw [Int32.le_iff_toInt_le] at h
      have e1 : (1 : Int32).toInt = 1 := by decide
      have e0 : (0 : Int32).toInt = 0 := by decide
      omega
    obtain ⟨j, hj, rfl⟩ := nI_of h0
    rw [li_el1 hj] at h
    by_cases z : j ≤ g
    · rw [if_pos (nI_le z hg)]; exact ⟨j, h, z, rfl⟩
    · rw [if_neg (nI_ge (by omega) hj)]; exact ⟨g, h1, Nat.le_refl _, rfl⟩
  · rw [if_neg h]
    exact ⟨1, Nat.le_refl _, h1, rfl⟩
theorem i_vc0 (k0 : Int32) (k1 : Int32) (k2 : Int32) (k3 : Int32) : wpX_init (fun u => wpY_init (fun v => i_Rel 4 u v) k0 k1 k2 k3) k0 k1 k2 k3 := by
  unfold wpX_init
  refine cl_x (cl_x (cl_x (cl_x ?_)))
  unfold wpY_init
  refine cl_y (cl_y (cl_y (cl_y ?_)))
  obtain ⟨n0, a0, b0, e0⟩ := cl_n k0 (g := 8) (by omega) (by omega)
  obtain ⟨n1, a1, b1, e1⟩ := cl_n k1 (g := 12) (by omega) (by omega)
  obtain ⟨n2, a2, b2, e2⟩ := cl_n k2 (g := 12) (by omega) (by omega)
  obtain ⟨n3, a3, b3, e3⟩ := cl_n k3 (g := 16) (by omega) (by omega)
  have e0 : cl_v k0 8 = nI n0 := e0
  have e1 : cl_v k1 12 = nI n1 := e1
  have e2 : cl_v k2 12 = nI n2 := e2
  have e3 : cl_v k3 16 = nI n3 := e3
  rw [e0, e1, e2, e3]
  refine zz_in (k := 4) (mm := n0) (ms := n1) (mc := n2) (nm := n3) (M := 0) (S := 0) (F := 0) (lk := 0) (es := 0) (lc := 0) (iz := 0) (rn := 0) (bi := 0) (ac := 0) (pt := 0) (pc := 0) (de := 0) (oc := 0) (sa := 0) (yb := 0) (yac := 0) (ypt := 0) (yde := 0) (yoc := 0) (ypc := 0) (me := fun _ => false) (wk := fun _ => false) (ft := fun _ => false) (ow := fun _ => 0) (le := fun _ => 0) (op := fun _ => 0) (fm := fun _ => 0) (fn := fun _ => 0) (fs := fun _ => 0) (dn := fun _ => 0) (sn := fun _ => 0) (wn := fun _ => 0) (df := fun _ => 0) (ar := fun _ => 0) (ld := fun _ => 0) (rs := fun _ => 0) (lq := fun _ => 0) (il := fun _ => 0) (pn := fun _ => 0) (lo := fun _ => 0) (rf := fun _ => 0) (po := fun _ => 0) (st := fun _ => 0) (ou := fun _ => 0) (va := fun _ => 0) (vl := fun _ => 0) (yld := fun _ => 0) (ytg := fun _ => 0) (ylv := fun _ => 0) (yfd := fun _ => 0) (yst := fun _ => 0) (wd := fun _ => 0) (dm := fun _ _ => false) (ds := fun _ _ => false) (wq := fun _ _ => false) (dp := fun _ _ => 0) ?_ (Or.inl ⟨rfl, rfl⟩)
  refine ⟨by omega, ⟨fun _ => Nat.zero_le _, fun _ _ => rfl, fun _ => Nat.zero_le _, fun _ h => by simp at h⟩, fun s h => absurd h (Nat.not_lt_zero s), ⟨fun _ _ h => h, fun _ _ h => absurd h Bool.false_ne_true⟩, ⟨fun _ j _ => b_0 j, fun _ j _ => b_0 j, fun _ j _ => b_0 j, fun _ _ h => absurd h Bool.false_ne_true⟩, ⟨Nat.zero_le _, fun f h => absurd h (Nat.not_lt_zero f), fun _ _ h => absurd h Bool.false_ne_true, fun f _ h => absurd h (Nat.not_lt_zero f)⟩, ?_⟩
  intro m n
  constructor
  · intro h; cases h
  · rintro ⟨c, h, _⟩
    exact absurd h (Nat.not_lt_zero _)
def un (f : Nat → Nat) (a v : Nat) : Nat → Nat := fun j => if j = a then v else f j
theorem un_s (f : Nat → Nat) (a v : Nat) : un f a v a = v := if_pos rfl
theorem un_n {f : Nat → Nat} {a v j : Nat} (h : j ≠ a) : un f a v j = f j := if_neg h
theorem upd_nA (f : Nat → Nat) (a v : Nat) : upd (nA f) a (nI v) = nA (un f a v) := by
  funext j
  by_cases e : j = a
  · rw [e, pk_us, na_ap, un_s]
  · rw [pk_un e, na_ap, na_ap, un_n e]
theorem upd_bA (f : Nat → Bool) (a : Nat) (b : Bool) : upd (bA f) a (bI b) = bA (ub f a b) := by
  funext j
  by_cases e : j = a
  · rw [e, pk_us, ba_ap, ub_s]
  · rw [pk_un e, ba_ap, ba_ap, ub_n e]
theorem bz_b (v : Int32) : ∃ b, lw_bz v = bI b := by
  rcases lw_bz_01 v with h | h
  · exact ⟨false, h⟩
  · exact ⟨true, h⟩
theorem nar_b (b : Bool) : vp_nar .boolean (bI b) = bI b := by cases b <;> rfl
theorem i_vc_module {k : Nat} {u : SX} {v : SY} (I : i_Rel k u v) (hk : k + 4 ≤ 2052) (v1 : Int32) : wpX_module (fun r u' => wpY_module (fun r' v' => r' = r ∧ i_Rel (k + 4) u' v') v (lw_bz v1)) u (lw_bz v1) := by
  obtain ⟨b, hb⟩ := bz_b v1
  rw [hb]
  refine zz_el (P := fun u v => wpX_module (fun r u' => wpY_module (fun r' v' => r' = r ∧ i_Rel (k + 4) u' v') v (bI b)) u (bI b)) ?_ I
  intro mm ms mc nm M S F lk es lc iz rn bi ac pt pc de oc sa yb yac ypt yde yoc ypc me wk ft ow le op fm fn fs dn sn wn df ar ld rs lq il pn lo rf po st ou va vl yld ytg ylv yfd yst wd dm ds wq dp h g
  have h0 := h
  obtain ⟨⟨n1, n2, n3, n4, n5, n6⟩, h2, h3, h4, h5, h6, h7⟩ := h
  by_cases hM : M < mm
  · have hin : vp_in (nI M) 8 := vp_in_nI (by omega) (by omega)
    have hlt : nI M < nI mm := nI_lt hM (by omega)
    have e1 : upd (bA me) (nI M).toNatClampNeg (vp_nar .boolean (bI b)) = bA (ub me M b) := by rw [nI_clamp (by omega), nar_b, upd_bA]
    refine br_t hlt (xx_unlink ⟨hin, nm_r e1 (nm_r (nI_1 M) ?_)⟩)
    refine br_t hlt (yy_unlink ⟨hin, nm_r e1 (nm_r (nI_1 M) ?_)⟩)
    refine ⟨rfl, zz_in (dm := dm) (ds := ds) (wq := wq) (dp := dp) ⟨⟨n1, n2, n3, n4, hM, n6⟩, h2, fun s hs => Nat.lt_succ_of_lt (h3 s hs), ⟨h4.1, fun m n hmn => ?_⟩, h5, ⟨h6.1, fun f hf => ?_, h6.2.2⟩, h7⟩ (Or.inl ⟨rfl, rfl⟩)⟩
    · have := h4.2 m n hmn
      exact ⟨by omega, this.2⟩
    · have := h6.2.1 f hf
      exact ⟨by omega, this.2⟩
  · have hge : ¬ nI M < nI mm := nI_nlt (by omega) (by omega)
    exact br_f hge (br_f hge ⟨rfl, zz_in h0 g⟩)
theorem i_vc_section {k : Nat} {u : SX} {v : SY} (I : i_Rel k u v) (hk : k + 4 ≤ 2052) : wpX_section (fun r u' => wpY_section (fun r' v' => r' = r ∧ i_Rel (k + 4) u' v') v) u := by
  refine zz_el (P := fun u v => wpX_section (fun r u' => wpY_section (fun r' v' => r' = r ∧ i_Rel (k + 4) u' v') v) u) ?_ I
  intro mm ms mc nm M S F lk es lc iz rn bi ac pt pc de oc sa yb yac ypt yde yoc ypc me wk ft ow le op fm fn fs dn sn wn df ar ld rs lq il pn lo rf po st ou va vl yld ytg ylv yfd yst wd dm ds wq dp h g
  have h0 := h
  obtain ⟨⟨n1, n2, n3, n4, n5, n6⟩, h2, h3, h4, h5, h6, h7⟩ := h
  by_cases hM : M = 0
  · have z : nI M = 0 := by rw [hM]; rfl
    exact br_t z (br_t z ⟨rfl, zz_in h0 g⟩)
  · have z : ¬ nI M = 0 := nI_ne0 (by omega) (by omega)
    by_cases hS : S < ms
    · have hin : vp_in (nI S) 12 := vp_in_nI (by omega) (by omega)
      have hlt : nI S < nI ms := nI_lt hS (by omega)
      have e1 : upd (nA ow) (nI S).toNatClampNeg (nI M - 1) = nA (un ow S (M - 1)) := by rw [nI_clamp (by omega), li_sb (by omega), upd_nA]
      refine br_f z (br_t hlt (xx_unlink ⟨hin, nm_r e1 (nm_r (nI_1 S) ?_)⟩))
      refine br_f z (br_t hlt (yy_unlink ⟨hin, nm_r e1 (nm_r (nI_1 S) ?_)⟩))
      refine ⟨rfl, zz_in (dm := dm) (ds := ds) (wq := wq) (dp := dp) ⟨⟨n1, n2, n3, n4, n5, hS⟩, ⟨h2.1, fun s hs => h2.2.1 s (by omega), h2.2.2⟩, ?_, ⟨h4.1, fun m n hmn => ?_⟩, h5, h6, ?_⟩ (Or.inl ⟨rfl, rfl⟩)⟩
      · intro s hs
        by_cases e : s = S
        · rw [e, un_s]; omega
        · rw [un_n e]; exact h3 s (by omega)
      · have := h4.2 m n hmn
        exact ⟨this.1, this.2.1, by omega, this.2.2.2⟩
      · intro m n
        rw [h7 m n]
        have eq : ∀ c, c % 16 < le (c / 16) → un ow S (M - 1) (c / 16) = ow (c / 16) := fun c hc => un_n (by have := ce_S h2 hc; omega)
        constructor
        · rintro ⟨c, c1, c2, c3⟩
          exact ⟨c, c1, by rw [eq c c1]; exact c2, c3⟩
        · rintro ⟨c, c1, c2, c3⟩
          exact ⟨c, c1, by rw [← eq c c1]; exact c2, c3⟩
    · have hge : ¬ nI S < nI ms := nI_nlt (by omega) (by omega)
      exact br_f z (br_f hge (br_f z (br_f hge ⟨rfl, zz_in h0 g⟩)))
end
section
/-! define and cell -/
def cs_v (M S : Nat) (ow : Nat → Nat) : Option Nat := if 1 ≤ S ∧ ow (S - 1) + 1 = M then some (S - 1) else none
theorem cs_s {M S : Nat} {ow : Nat → Nat} {s : Nat} (h : cs_v M S ow = some s) : S = s + 1 ∧ ow s + 1 = M := by
  unfold cs_v at h
  by_cases z : 1 ≤ S ∧ ow (S - 1) + 1 = M
  · rw [if_pos z] at h
    cases h
    exact ⟨by omega, z.2⟩
  · rw [if_neg z] at h
    cases h
section
variable {mm ms mc nm M S : Nat} {lk es lc iz rn bi ac pt pc de oc : Int32} {me wk : Nat → Bool} {ow le op : Nat → Nat} {dn sn wn df ar ld rs lq il pn lo rf po st ou va : Nat → Int32} {wd : Nat → Int64}
theorem xx_cur {post : Int32 → Prop} (hM : M ≤ 8) (hS : S ≤ 12) (how : ∀ s, s < S → ow s < M) (p : post (oI (cs_v M S ow))) : wpX_currentSection post (nI mm, nI ms, nI mc, nI nm, nI M, nI S, lk, es, lc, iz, rn, bi, ac, pt, pc, de, oc, bA me, dn, sn, wn, df, nA ow, nA le, nA op, ar, bA wk, ld, rs, lq, il, pn, lo, rf, po, wd, st, ou, va) := by
  unfold cs_v at p
  by_cases h0 : S = 0
  · rw [if_neg (by omega)] at p
    have e : nI S - 1 = -1 := by rw [h0]; decide
    exact nm_r e (br_t (by decide) p)
  · have hw := how (S - 1) (by omega)
    have e0 := nI_clamp (n := S - 1) (by omega)
    refine nm_r (li_sb (by omega)) (br_f (nI_pos (by omega)) ⟨vp_in_nI (by omega) (by omega), ?_⟩)
    rw [e0, na_ap, li_sb (by omega), nI_eq (by omega) (by omega)]
    by_cases h1 : ow (S - 1) = M - 1
    · rw [if_pos (by omega)] at p
      exact br_t h1 p
    · rw [if_neg (by omega)] at p
      exact br_f h1 p
end
section
variable {mm ms mc nm M S F : Nat} {lk sa rn yb yac ypt yde yoc ypc : Int32} {me wk ft : Nat → Bool} {ow le op fm fn fs : Nat → Nat} {ar vl yld ytg ylv yfd yst ou : Nat → Int32}
theorem yy_cur {post : Int32 → Prop} (hM : M ≤ 8) (hS : S ≤ 12) (how : ∀ s, s < S → ow s < M) (p : post (oI (cs_v M S ow))) : wpY_currentSection post (nI mm, nI ms, nI mc, nI nm, nI M, nI S, nI F, lk, sa, rn, yb, yac, ypt, yde, yoc, ypc, bA me, nA ow, nA le, nA op, ar, bA wk, vl, nA fm, nA fn, nA fs, bA ft, yld, ytg, ylv, yfd, yst, ou) := by
  unfold cs_v at p
  by_cases h0 : S = 0
  · rw [if_neg (by omega)] at p
    exact br_t (by rw [h0]; decide) p
  · have hw := how (S - 1) (by omega)
    have e0 := nI_clamp (n := S - 1) (by omega)
    refine br_f (by rw [li_le0 (by omega)]; omega) ?_
    rw [li_sb (a := S) (by omega)]
    refine ⟨vp_in_nI (by omega) (by omega), ?_⟩
    rw [e0, na_ap, li_sb (by omega), nI_eq (by omega) (by omega)]
    by_cases h1 : ow (S - 1) = M - 1
    · rw [if_pos (by omega)] at p
      exact br_t h1 p
    · rw [if_neg (by omega)] at p
      exact br_f h1 p
end
/-- 128 facts are all that can be -/
theorem fr_room {M nm F : Nat} {fm fn fs : Nat → Nat} {ft : Nat → Bool} {dm ds : Nat → Nat → Bool} {dp : Nat → Nat → Nat} (hM : M ≤ 8) (hnm : nm ≤ 16) (hf : fr_ok M nm F fm fn fs ft dm ds dp) {m n : Nat} (hm : m < 8) (hn : n < 16) (hd : dm m n = false) : F < 128 := by
  obtain ⟨f1, f2, f3, f4⟩ := hf
  have key : ∀ i, i ≤ F → ∃ b : Nat → Bool, cb b 128 = i ∧ ∀ j, b j = true ↔ ∃ f, f < i ∧ fm f * 16 + fn f = j := by
    intro i
    induction i with
    | zero =>
      intro _
      refine ⟨fun _ => false, by decide, fun j => ⟨fun h => absurd h Bool.false_ne_true, ?_⟩⟩
      rintro ⟨f, h, _⟩
      omega
    | succ i ih =>
      intro hi
      obtain ⟨b, b1, b2⟩ := ih (by omega)
      have g := f2 i (by omega)
      have hno : b (fm i * 16 + fn i) = false := by
        apply bo_n
        intro z
        obtain ⟨f, h1, h2⟩ := (b2 _).mp z
        have g' := f2 f (by omega)
        have := f4 f i (by omega) (by omega) (by omega) (by omega)
        omega
      refine ⟨ub b (fm i * 16 + fn i) true, by rw [cb_add hno (by omega), b1], fun j => ?_⟩
      rw [ex_s (P := fun f => fm f * 16 + fn f = j)]
      by_cases e : j = fm i * 16 + fn i
      · rw [e, ub_s]
        exact ⟨fun _ => Or.inr rfl, fun _ => rfl⟩
      · rw [ub_n e, b2 j]
        exact ⟨Or.inl, fun z => z.elim id (fun w => absurd w.symm e)⟩
  apply Nat.lt_of_not_le
  intro hF
  obtain ⟨b, b1, b2⟩ := key F (Nat.le_refl _)
  have hall := cb_full (p := b) (n := 128) (by omega) (a := m * 16 + n) (by omega)
  obtain ⟨f, h1, h2⟩ := (b2 _).mp hall
  have g := f2 f h1
  have e1 : fm f = m := by omega
  have e2 : fn f = n := by omega
  rw [e1, e2] at g
  rw [g.2.2.1] at hd
  cases hd
def u2 {α : Type} (f : Nat → Nat → α) (a b : Nat) (v : α) : Nat → Nat → α := fun m n => if m = a ∧ n = b then v else f m n
theorem u2_s {α : Type} (f : Nat → Nat → α) (a b : Nat) (v : α) : u2 f a b v a b = v := if_pos ⟨rfl, rfl⟩
theorem u2_n {α : Type} {f : Nat → Nat → α} {a b m n : Nat} {v : α} (h : ¬ (m = a ∧ n = b)) : u2 f a b v m n = f m n := if_neg h
theorem bt_set {x : Nat → Int32} {d : Nat → Nat → Bool} (h : ∀ m j, j < 32 → bt (x m) j = d m j) {m n : Nat} (hn : n < 32) : ∀ m' j, j < 32 → bt (upd x m (x m ||| ((1 : Int32) <<< (nI n &&& 31))) m') j = u2 d m n true m' j := by
  intro m' j hj
  by_cases e : m' = m
  · subst e
    rw [pk_us, b_or, h m' j hj, bt_one hn hj]
    by_cases e2 : j = n
    · subst e2
      rw [u2_s, decide_eq_true rfl, Bool.or_true]
    · rw [u2_n (fun z => e2 z.2), decide_eq_false e2, Bool.or_false]
  · rw [pk_un e, u2_n (fun z => e z.1)]
    exact h m' j hj
/-- the base facts behind one more definition -/
theorem rb_def {mm ms mc nm M S F : Nat} {ow le op : Nat → Nat} {ar : Nat → Int32} {wk : Nat → Bool} {fm fn fs : Nat → Nat} {ft : Nat → Bool} {dn sn wn df : Nat → Int32} {dm ds wq : Nat → Nat → Bool} {dp : Nat → Nat → Nat} (h : rb_ok mm ms mc nm M S F ow le op ar wk fm fn fs ft dn sn wn df dm ds wq dp) {m n s : Nat} {b : Bool} {sn' : Nat → Int32} (hm : m < M) (hn : n < nm) (hs : s < S) (hd : dm m n = false) (hsn : ∀ m' j, j < 32 → bt (sn' m') j = u2 ds m n b m' j) : rb_ok mm ms mc nm M S (F + 1) ow le op ar wk (un fm F m) (un fn F n) (un fs F (s * 16 + le s)) (ub ft F b) (upd dn m (dn m ||| ((1 : Int32) <<< (nI n &&& 31)))) sn' wn (upd df (m * 16 + n) (nI (s * 16 + le s))) (u2 dm m n true) (u2 ds m n b) wq (u2 dp m n (s * 16 + le s)) := by
  obtain ⟨⟨n1, n2, n3, n4, n5, n6⟩, h2, h3, h4, h5, h6, h7⟩ := h
  have hF := fr_room (by omega) n4 h6 (by omega : m < 8) (by omega : n < 16) hd
  have ls := h2.1 s
  refine ⟨⟨n1, n2, n3, n4, n5, n6⟩, h2, h3, ⟨?_, ?_⟩, ⟨bt_set h5.1 (by omega), hsn, h5.2.2.1, ?_⟩, ⟨by omega, ?_, ?_, ?_⟩, h7⟩
  · intro m' n' z
    by_cases e : m' = m ∧ n' = n
    · rw [e.1, e.2, u2_s]
    · rw [u2_n e] at z ⊢
      exact h4.1 m' n' z
  · intro m' n' z
    by_cases e : m' = m ∧ n' = n
    · rw [e.1, e.2, u2_s]
      have dv := pf_dv s (le s) (by omega)
      rw [dv.1, dv.2]
      exact ⟨hm, hn, hs, Nat.le_refl _⟩
    · rw [u2_n e] at z
      rw [u2_n e]
      exact h4.2 m' n' z
  · intro m' n' z
    by_cases e : m' = m ∧ n' = n
    · rw [e.1, e.2, u2_s, pk_us]
    · rw [u2_n e] at z
      have := h4.2 m' n' z
      rw [u2_n e, pk_un (by omega)]
      exact h5.2.2.2 m' n' z
  · intro f hf
    by_cases e : f = F
    · rw [e, un_s, un_s, un_s, ub_s, u2_s, u2_s, u2_s]
      exact ⟨hm, hn, rfl, rfl, rfl⟩
    · rw [un_n e, un_n e, un_n e, ub_n e]
      have g := h6.2.1 f (by omega)
      have e2 : ¬ (fm f = m ∧ fn f = n) := fun z => by
        rw [z.1, z.2, hd] at g
        cases g.2.2.1
      rw [u2_n e2, u2_n e2, u2_n e2]
      exact g
  · intro m' n' z
    by_cases e : m' = m ∧ n' = n
    · exact ⟨F, by omega, by rw [un_s, e.1], by rw [un_s, e.2]⟩
    · rw [u2_n e] at z
      obtain ⟨f, a, b, c⟩ := h6.2.2.1 m' n' z
      exact ⟨f, by omega, by rw [un_n (by omega)]; exact b, by rw [un_n (by omega)]; exact c⟩
  · have hno : ∀ f, f < F → ¬ (fm f = m ∧ fn f = n) := fun f hf z => by
      have g := h6.2.1 f hf
      rw [z.1, z.2, hd] at g
      cases g.2.2.1
    intro f f' hf hf' a b
    by_cases e : f = F
    · by_cases e' : f' = F
      · omega
      · rw [e, un_s, un_n e'] at a b
        exact absurd ⟨a.symm, b.symm⟩ (hno f' (by omega))
    · by_cases e' : f' = F
      · rw [e', un_s, un_n e] at a b
        exact absurd ⟨a, b⟩ (hno f (by omega))
      · rw [un_n e, un_n e'] at a b
        exact h6.2.2.2 f f' (by omega) (by omega) a b
theorem i_vc_define {k : Nat} {u : SX} {v : SY} (I : i_Rel k u v) (hk : k + 4 ≤ 2052) (v1 : Int32) (v2 : Int32) : wpX_define (fun r u' => wpY_define (fun r' v' => r' = r ∧ i_Rel (k + 4) u' v') v v1 (lw_bz v2)) u v1 (lw_bz v2) := by
  obtain ⟨b, hb⟩ := bz_b v2
  rw [hb]
  refine zz_el (P := fun u v => wpX_define (fun r u' => wpY_define (fun r' v' => r' = r ∧ i_Rel (k + 4) u' v') v v1 (bI b)) u v1 (bI b)) ?_ I
  intro mm ms mc nm M S F lk es lc iz rn bi ac pt pc de oc sa yb yac ypt yde yoc ypc me wk ft ow le op fm fn fs dn sn wn df ar ld rs lq il pn lo rf po st ou va vl yld ytg ylv yfd yst wd dm ds wq dp h g
  have h0 := h
  obtain ⟨⟨n1, n2, n3, n4, n5, n6⟩, h2, h3, h4, h5, h6, h7⟩ := h
  have hM8 : M ≤ 8 := by omega
  have hS12 : S ≤ 12 := by omega
  unfold wpX_define
  refine xx_cur hM8 hS12 h3 ?_
  cases hc : cs_v M S ow with
  | none =>
    refine br_t (by decide) ?_
    unfold wpY_define
    refine yy_cur hM8 hS12 h3 ?_
    rw [hc]
    exact br_t (by decide) ⟨rfl, zz_in h0 g⟩
  | some s =>
    obtain ⟨c1, c2⟩ := cs_s hc
    refine br_f (by rw [oi_s]; exact nI_pos (by omega)) ?_
    rcases pk_ix v1 (n := nm) (by omega) with z | z | ⟨n, hn, rfl⟩
    · refine xx_nameF (Or.inl z) (br_t rfl ?_)
      unfold wpY_define
      refine yy_cur hM8 hS12 h3 ?_
      rw [hc]
      exact br_f (by rw [oi_s]; exact nI_pos (by omega)) (br_t z ⟨rfl, zz_in h0 g⟩)
    · refine xx_nameF (Or.inr z) (br_t rfl ?_)
      unfold wpY_define
      refine yy_cur hM8 hS12 h3 ?_
      rw [hc]
      exact br_f (by rw [oi_s]; exact nI_pos (by omega)) (br_c (fun _ => ⟨rfl, zz_in h0 g⟩) (fun _ => br_t z ⟨rfl, zz_in h0 g⟩))
    · refine xx_nameT hn n4 (br_f (by decide) ?_)
      have is : vp_in (nI s) 12 := vp_in_nI (by omega) (by omega)
      have im : vp_in (nI (ow s)) 8 := vp_in_nI (by omega) (by omega)
      have es0 := nI_clamp (n := s) (by omega)
      have em0 := nI_clamp (n := ow s) (by omega)
      have ls := h2.1 s
      have el : nA le (nI s).toNatClampNeg = nI (le s) := by rw [es0]; rfl
      refine ⟨is, nm_r (e' := nI (ow s)) (by rw [oi_s, es0]; rfl) (nm_e ⟨im, ?_⟩)⟩
      rw [em0, bt_bit _ (by omega), h5.1 _ n (by omega)]
      have eM : nI M - 1 = nI (ow s) := by rw [li_sb (by omega)]; exact congrArg nI (by omega)
      cases hd : dm (ow s) n with
      | true =>
        refine br_f (by decide) ?_
        unfold wpY_define
        refine yy_cur hM8 hS12 h3 ?_
        rw [hc]
        refine br_f (by rw [oi_s]; exact nI_pos (by omega)) (br_f (nI_pos (by omega)) (br_f (nI_ge hn (by omega)) ?_))
        refine br_c (fun _ => ?_) (fun _ => ⟨rfl, zz_in h0 g⟩)
        rw [eM]
        refine yy_fact (dm := dm) (ds := ds) (dp := dp) hM8 n4 h6 (by omega) (by omega) ?_ ?_
        · intro z
          rw [hd] at z
          cases z
        · intro f f1 _ _ _
          exact br_f (nI_pos (by have := h6.1; omega)) ⟨rfl, zz_in h0 g⟩
      | false =>
        have hF := fr_room hM8 n4 h6 (by omega : ow s < 8) (by omega : n < 16) hd
        have iF : vp_in (nI F) 128 := vp_in_nI hF (by omega)
        have eF := nI_clamp (n := F) (by omega)
        have ec : nI (ow s) * 16 + nI n = nI (ow s * 16 + n) := by rw [li_m16, nI_add]
        have ic : vp_in (nI (ow s) * 16 + nI n) 128 := by rw [ec]; exact vp_in_nI (by omega) (by omega)
        have ev : nI s * 16 + nA le (nI s).toNatClampNeg = nI (s * 16 + le s) := by rw [el, li_m16, nI_add]
        have fin : ∀ sn', (∀ m' j, j < 32 → bt (sn' m') j = u2 ds (ow s) n b m' j) → wX_define_81 (fun r u' => wpY_define (fun r' v' => r' = r ∧ i_Rel (k + 4) u' v') (nI mm, nI ms, nI mc, nI nm, nI M, nI S, nI F, lk, sa, rn, yb, yac, ypt, yde, yoc, ypc, bA me, nA ow, nA le, nA op, ar, bA wk, vl, nA fm, nA fn, nA fs, bA ft, yld, ytg, ylv, yfd, yst, ou) (nI n) (bI b)) (nI n) (nI s) (nI (ow s)) (nI mm) (nI ms) (nI mc) (nI nm) (nI M) (nI S) 0 es lc iz 0 bi ac pt pc de oc (bA me) (upd dn (ow s) (dn (ow s) ||| ((1 : Int32) <<< (nI n &&& 31)))) sn' wn df (nA ow) (nA le) (nA op) ar (bA wk) ld rs lq il pn lo rf po wd st ou va := by
          intro sn' hsn
          unfold wX_define_81
          refine ⟨is, ic, nm_r (e' := upd df (ow s * 16 + n) (nI (s * 16 + le s))) (by rw [ec, nI_clamp (by omega), ev]) ⟨is, ?_⟩⟩
          unfold wpY_define
          refine yy_cur hM8 hS12 h3 ?_
          rw [hc]
          refine br_f (by rw [oi_s]; exact nI_pos (by omega)) (br_f (nI_pos (by omega)) (br_f (nI_ge hn (by omega)) (br_t (nI_lt (b := 128) hF (by decide)) ?_)))
          rw [eM]
          refine yy_fact (dm := dm) (ds := ds) (dp := dp) hM8 n4 h6 (by omega) (by omega) ?_ ?_
          · intro _
            refine br_t (by decide) (yy_unlink ?_)
            refine ⟨iF, nm_r (e' := nA (un fm F (ow s))) (by rw [eF, eM, upd_nA]) ⟨iF, nm_r (e' := nA (un fn F n)) (by rw [eF, upd_nA]) ⟨is, iF, nm_r (e' := nA (un fs F (s * 16 + le s))) (by rw [oi_s, eF, ev, upd_nA]) ⟨iF, nm_r (e' := bA (ub ft F b)) (by rw [eF, nar_b, upd_bA]) (nm_r (nI_1 F) ⟨is, ?_⟩)⟩⟩⟩⟩
            refine ⟨rfl, zz_in (dm := u2 dm (ow s) n true) (ds := u2 ds (ow s) n b) (wq := wq) (dp := u2 dp (ow s) n (s * 16 + le s)) (rb_def h0 (by omega) hn (by omega) hd hsn) (Or.inl ⟨rfl, rfl⟩)⟩
          · intro f _ _ _ z
            rw [hd] at z
            cases z
        refine br_t rfl (xx_unlink ⟨im, im, nm_r (e' := upd dn (ow s) (dn (ow s) ||| ((1 : Int32) <<< (nI n &&& 31)))) rfl ?_⟩)
        cases b with
        | false =>
          refine br_t rfl (fin sn ?_)
          intro m' j hj
          rw [h5.2.1 m' j hj]
          by_cases e : m' = ow s ∧ j = n
          · rw [e.1, e.2, u2_s]
            apply bo_n
            intro z
            rw [h4.1 _ _ z] at hd
            cases hd
          · rw [u2_n e]
        | true =>
          refine br_f (by decide) ⟨im, im, nm_r (e' := upd sn (ow s) (sn (ow s) ||| ((1 : Int32) <<< (nI n &&& 31)))) rfl (fin _ (bt_set h5.2.1 (by omega)))⟩
end
section
/-! cell -/
/-- the base facts behind one more cell of the last section; r: it is a reference that isn't weak -/
theorem rb_cell {mm ms mc nm M S F : Nat} {ow le op : Nat → Nat} {ar : Nat → Int32} {wk : Nat → Bool} {fm fn fs : Nat → Nat} {ft : Nat → Bool} {dn sn wn df : Nat → Int32} {dm ds wq : Nat → Nat → Bool} {dp : Nat → Nat → Nat} (h : rb_ok mm ms mc nm M S F ow le op ar wk fm fn fs ft dn sn wn df dm ds wq dp) {s o : Nat} {x : Int32} {w : Bool} {wn' : Nat → Int32} {wq' : Nat → Nat → Bool} (hs : s < S) (hl : le s < mc) (ho : o ≤ 13) (hx : 7 ≤ o → ∃ n, n < nm ∧ x = nI n) (hb : ∀ m j, j < 32 → bt (wn' m) j = wq' m j) (hw : ∀ m n, wq' m n = true ↔ (wq m n = true ∨ (7 ≤ o ∧ w = false ∧ m = ow s ∧ n = x.toNatClampNeg))) : rb_ok mm ms mc nm M S F ow (un le s (le s + 1)) (un op (s * 16 + le s) o) (upd ar (s * 16 + le s) x) (ub wk (s * 16 + le s) w) fm fn fs ft dn sn wn' df dm ds wq' dp := by
  obtain ⟨⟨n1, n2, n3, n4, n5, n6⟩, h2, h3, h4, h5, h6, h7⟩ := h
  have ls := h2.1 s
  have dv := pf_dv s (le s) (by omega)
  refine ⟨⟨n1, n2, n3, n4, n5, n6⟩, ⟨?_, ?_, ?_, ?_⟩, h3, ⟨h4.1, ?_⟩, ⟨h5.1, h5.2.1, hb, h5.2.2.2⟩, h6, ?_⟩
  · intro t
    by_cases e : t = s
    · rw [e, un_s]; omega
    · rw [un_n e]; exact h2.1 t
  · intro t ht
    rw [un_n (by omega)]
    exact h2.2.1 t ht
  · intro c
    by_cases e : c = s * 16 + le s
    · rw [e, un_s]; exact ho
    · rw [un_n e]; exact h2.2.2.1 c
  · intro c hc
    by_cases e : c = s * 16 + le s
    · rw [e, un_s] at hc
      rw [e, pk_us]
      exact hx hc
    · rw [un_n e] at hc
      rw [pk_un e]
      exact h2.2.2.2 c hc
  · intro m n hmn
    have g := h4.2 m n hmn
    refine ⟨g.1, g.2.1, g.2.2.1, ?_⟩
    by_cases e : dp m n / 16 = s
    · rw [e, un_s]
      have := g.2.2.2
      rw [e] at this
      omega
    · rw [un_n e]; exact g.2.2.2
  · intro m n
    rw [hw m n, h7 m n]
    have old : ∀ c, c ≠ s * 16 + le s → (c % 16 < un le s (le s + 1) (c / 16) ↔ c % 16 < le (c / 16)) := by
      intro c hc
      by_cases e : c / 16 = s
      · rw [e, un_s]
        omega
      · rw [un_n e]
    constructor
    · rintro (⟨c, c1, c2, c3, c4, c5⟩ | ⟨a1, a2, a3, a4⟩)
      · have hne : c ≠ s * 16 + le s := by
          intro z
          rw [z, dv.1, dv.2] at c1
          omega
        exact ⟨c, (old c hne).mpr c1, c2, by rw [un_n hne]; exact c3, by rw [ub_n hne]; exact c4, by rw [pk_un hne]; exact c5⟩
      · refine ⟨s * 16 + le s, ?_, ?_, ?_, ?_, ?_⟩
        · rw [dv.1, dv.2, un_s]; omega
        · rw [dv.1]; exact a3.symm
        · rw [un_s]; exact a1
        · rw [ub_s]; exact a2
        · rw [pk_us]; exact a4.symm
    · rintro ⟨c, c1, c2, c3, c4, c5⟩
      by_cases e : c = s * 16 + le s
      · right
        rw [e, un_s] at c3
        rw [e, ub_s] at c4
        rw [e, pk_us] at c5
        rw [e, dv.1] at c2
        exact ⟨c3, c4, c2.symm, c5.symm⟩
      · left
        rw [un_n e] at c3
        rw [ub_n e] at c4
        rw [pk_un e] at c5
        exact ⟨c, (old c e).mp c1, c2, c3, c4, c5⟩
section
variable {mm ms mc nm M S F : Nat} {lk sa rn yb yac ypt yde yoc ypc : Int32} {me wk ft : Nat → Bool} {ow le op fm fn fs : Nat → Nat} {ar vl yld ytg ylv yfd yst ou : Nat → Int32}
theorem yy_c118 {post : Int32 → SY → Prop} {s c : Nat} {w : Bool} (hle : ∀ s, le s ≤ 12) (hs : s < 12) (hc : c < 192) (p : post (nI (le s + 1) - 1) (nI mm, nI ms, nI mc, nI nm, nI M, nI S, nI F, lk, sa, rn, yb, yac, ypt, yde, yoc, ypc, bA me, nA ow, nA (un le s (le s + 1)), nA op, ar, bA (ub wk c w), vl, nA fm, nA fn, nA fs, bA ft, yld, ytg, ylv, yfd, yst, ou)) : wY_cell_118 post (nI s) (bI w) (nI c) (nI mm) (nI ms) (nI mc) (nI nm) (nI M) (nI S) (nI F) lk sa rn yb yac ypt yde yoc ypc (bA me) (nA ow) (nA le) (nA op) ar (bA wk) vl (nA fm) (nA fn) (nA fs) (bA ft) yld ytg ylv yfd yst ou := by
  have is : vp_in (nI s) 12 := vp_in_nI (by omega) (by omega)
  have es0 := nI_clamp (n := s) (by omega)
  have ls := hle s
  unfold wY_cell_118
  refine ⟨vp_in_nI hc (by omega), nm_r (e' := bA (ub wk c w)) (by rw [nI_clamp (by omega), nar_b, upd_bA]) ⟨is, is, nm_r (e' := nA (un le s (le s + 1))) (by rw [es0, na_ap, nI_1, upd_nA]) ⟨is, ?_⟩⟩⟩
  rw [es0, na_ap, un_s]
  exact p
theorem yy_c45 {post : Int32 → SY → Prop} {s o : Nat} {x : Int32} {w : Bool} (hle : ∀ s, le s ≤ 12) (hs : s < 12) (hl : le s < mc) (hmc : mc ≤ 12) (ho : o ≤ 13) (p : post (nI (le s + 1) - 1) (nI mm, nI ms, nI mc, nI nm, nI M, nI S, nI F, 0, sa, 0, yb, yac, ypt, yde, yoc, ypc, bA me, nA ow, nA (un le s (le s + 1)), nA (un op (s * 16 + le s) o), upd ar (s * 16 + le s) x, bA (ub wk (s * 16 + le s) (decide (7 ≤ o) && w)), vl, nA fm, nA fn, nA fs, bA ft, yld, ytg, ylv, yfd, yst, ou)) : wY_cell_45 post (nI o) x (bI w) (nI s) (nI mm) (nI ms) (nI mc) (nI nm) (nI M) (nI S) (nI F) lk sa rn yb yac ypt yde yoc ypc (bA me) (nA ow) (nA le) (nA op) ar (bA wk) vl (nA fm) (nA fn) (nA fs) (bA ft) yld ytg ylv yfd yst ou := by
  have is : vp_in (nI s) 12 := vp_in_nI (by omega) (by omega)
  have es0 := nI_clamp (n := s) (by omega)
  have ls := hle s
  have el : nA le (nI s).toNatClampNeg = nI (le s) := by rw [es0]; rfl
  have ec : nI s * 16 + nA le (nI s).toNatClampNeg = nI (s * 16 + le s) := by rw [el, li_m16, nI_add]
  have cc := nI_clamp (n := s * 16 + le s) (by omega)
  have ic : vp_in (nI (s * 16 + le s)) 192 := vp_in_nI (by omega) (by omega)
  unfold wY_cell_45
  refine ⟨is, br_t (by rw [el]; exact nI_lt hl (by omega)) (yy_unlink ⟨is, nm_r ec ⟨ic, nm_r (e' := nA (un op (s * 16 + le s) o)) (by rw [cc, upd_nA]) ⟨ic, nm_r (e' := upd ar (s * 16 + le s) x) (by rw [cc]) ?_⟩⟩⟩)⟩
  cases w with
  | false =>
    rw [Bool.and_false] at p
    exact br_t rfl (yy_c118 (w := false) hle hs (by omega) p)
  | true =>
    refine br_f (by decide) ?_
    rw [Bool.and_true] at p
    by_cases h7 : o < 7
    · rw [decide_eq_false (by omega : ¬ 7 ≤ o)] at p
      exact br_t (by rw [li_lt7 (by omega)]; exact h7) (yy_c118 (w := false) hle hs (by omega) p)
    · rw [decide_eq_true (by omega : 7 ≤ o)] at p
      exact br_f (by rw [li_lt7 (by omega)]; exact h7) (yy_c118 (w := true) hle hs (by omega) p)
theorem yy_c45n {post : Int32 → SY → Prop} {s : Nat} {o x w : Int32} (hle : ∀ s, le s ≤ 12) (hs : s < 12) (hl : ¬ le s < mc) (p : post (-2) (nI mm, nI ms, nI mc, nI nm, nI M, nI S, nI F, lk, sa, rn, yb, yac, ypt, yde, yoc, ypc, bA me, nA ow, nA le, nA op, ar, bA wk, vl, nA fm, nA fn, nA fs, bA ft, yld, ytg, ylv, yfd, yst, ou)) : wY_cell_45 post o x w (nI s) (nI mm) (nI ms) (nI mc) (nI nm) (nI M) (nI S) (nI F) lk sa rn yb yac ypt yde yoc ypc (bA me) (nA ow) (nA le) (nA op) ar (bA wk) vl (nA fm) (nA fn) (nA fs) (bA ft) yld ytg ylv yfd yst ou := by
  have is : vp_in (nI s) 12 := vp_in_nI (by omega) (by omega)
  have es0 := nI_clamp (n := s) (by omega)
  have ls := hle s
  have el : nA le (nI s).toNatClampNeg = nI (le s) := by rw [es0]; rfl
  unfold wY_cell_45
  exact ⟨is, br_f (by rw [el]; exact nI_nlt (by omega) (by omega)) p⟩
end
section
variable {mm ms mc nm M S : Nat} {lk es lc iz rn bi ac pt pc de oc : Int32} {me wk : Nat → Bool} {ow le op : Nat → Nat} {dn sn wn df ar ld rs lq il pn lo rf po st ou va : Nat → Int32} {wd : Nat → Int64}
theorem xx_c150 {post : Int32 → SX → Prop} {s : Nat} (hle : ∀ s, le s ≤ 12) (hs : s < 12) (p : post (nI (le s + 1) - 1) (nI mm, nI ms, nI mc, nI nm, nI M, nI S, lk, es, lc, iz, rn, bi, ac, pt, pc, de, oc, bA me, dn, sn, wn, df, nA ow, nA (un le s (le s + 1)), nA op, ar, bA wk, ld, rs, lq, il, pn, lo, rf, po, wd, st, ou, va)) : wX_cell_150 post (nI s) (nI mm) (nI ms) (nI mc) (nI nm) (nI M) (nI S) lk es lc iz rn bi ac pt pc de oc (bA me) dn sn wn df (nA ow) (nA le) (nA op) ar (bA wk) ld rs lq il pn lo rf po wd st ou va := by
  have is : vp_in (nI s) 12 := vp_in_nI (by omega) (by omega)
  have es0 := nI_clamp (n := s) (by omega)
  have ls := hle s
  unfold wX_cell_150
  refine ⟨is, is, nm_r (e' := nA (un le s (le s + 1))) (by rw [es0, na_ap, nI_1, upd_nA]) ⟨is, ?_⟩⟩
  rw [es0, na_ap, un_s]
  exact p
theorem xx_c67 {post : Int32 → SX → Prop} {s o : Nat} {x : Int32} {w : Bool} (hle : ∀ s, le s ≤ 12) (hs : s < 12) (hm : ow s < 8) (ho : o ≤ 13) (p : post (nI (le s + 1) - 1) (nI mm, nI ms, nI mc, nI nm, nI M, nI S, 0, es, lc, iz, 0, bi, ac, pt, pc, de, oc, bA me, dn, sn, if 7 ≤ o ∧ w = false then upd wn (ow s) (wn (ow s) ||| ((1 : Int32) <<< (x &&& 31))) else wn, df, nA ow, nA (un le s (le s + 1)), nA (un op (s * 16 + le s) o), upd ar (s * 16 + le s) x, bA (ub wk (s * 16 + le s) (decide (7 ≤ o) && w)), ld, rs, lq, il, pn, lo, rf, po, wd, st, ou, va)) : wX_cell_67 post (nI o) x (bI w) (nI s) (bI (decide (7 ≤ o))) (nI mm) (nI ms) (nI mc) (nI nm) (nI M) (nI S) lk es lc iz rn bi ac pt pc de oc (bA me) dn sn wn df (nA ow) (nA le) (nA op) ar (bA wk) ld rs lq il pn lo rf po wd st ou va := by
  have is : vp_in (nI s) 12 := vp_in_nI (by omega) (by omega)
  have es0 := nI_clamp (n := s) (by omega)
  have ls := hle s
  have el : nA le (nI s).toNatClampNeg = nI (le s) := by rw [es0]; rfl
  have ec : nI s * 16 + nA le (nI s).toNatClampNeg = nI (s * 16 + le s) := by rw [el, li_m16, nI_add]
  have cc := nI_clamp (n := s * 16 + le s) (by omega)
  have ic : vp_in (nI (s * 16 + le s)) 192 := vp_in_nI (by omega) (by omega)
  have eo : nA ow (nI s).toNatClampNeg = nI (ow s) := by rw [es0]; rfl
  have em0 := nI_clamp (n := ow s) (by omega)
  have im : vp_in (nI (ow s)) 8 := vp_in_nI (by omega) (by omega)
  unfold wX_cell_67
  refine xx_unlink ⟨is, nm_r ec ⟨ic, nm_r (e' := nA (un op (s * 16 + le s) o)) (by rw [cc, upd_nA]) ⟨ic, nm_r (e' := upd ar (s * 16 + le s) x) (by rw [cc]) ?_⟩⟩⟩
  by_cases h7 : 7 ≤ o
  · rw [decide_eq_true h7] at p ⊢
    refine br_f (by decide) ?_
    cases w with
    | false =>
      rw [if_pos ⟨h7, rfl⟩] at p
      refine br_t rfl ?_
      unfold wX_cell_121 wX_cell_122
      refine ⟨ic, nm_r (e' := bA (ub wk (s * 16 + le s) false)) (by rw [cc]; exact upd_bA wk _ false) (br_f (by decide) (br_t rfl ?_))⟩
      rw [eo]
      refine ⟨is, im, im, nm_r (e' := upd wn (ow s) (wn (ow s) ||| ((1 : Int32) <<< (x &&& 31)))) (by rw [em0]) ?_⟩
      exact xx_c150 hle hs p
    | true =>
      rw [if_neg (fun z => by cases z.2)] at p
      refine br_f (by decide) ?_
      unfold wX_cell_122
      refine ⟨ic, nm_r (e' := bA (ub wk (s * 16 + le s) true)) (by rw [cc]; exact upd_bA wk _ true) (br_f (by decide) (br_f (by decide) ?_))⟩
      exact xx_c150 hle hs p
  · rw [decide_eq_false h7] at p ⊢
    rw [if_neg (fun z => h7 z.1)] at p
    refine br_t rfl ?_
    unfold wX_cell_121 wX_cell_122
    refine ⟨ic, nm_r (e' := bA (ub wk (s * 16 + le s) false)) (by rw [cc]; exact upd_bA wk _ false) (br_t rfl ?_)⟩
    exact xx_c150 hle hs p
end
theorem i_vc_cell {k : Nat} {u : SX} {v : SY} (I : i_Rel k u v) (hk : k + 4 ≤ 2052) (v1 : Int32) (v2 : Int32) (v3 : Int32) : wpX_cell (fun r u' => wpY_cell (fun r' v' => r' = r ∧ i_Rel (k + 4) u' v') v v1 v2 (lw_bz v3)) u v1 v2 (lw_bz v3) := by
  obtain ⟨w, hw⟩ := bz_b v3
  rw [hw]
  refine zz_el (P := fun u v => wpX_cell (fun r u' => wpY_cell (fun r' v' => r' = r ∧ i_Rel (k + 4) u' v') v v1 v2 (bI w)) u v1 v2 (bI w)) ?_ I
  intro mm ms mc nm M S F lk es lc iz rn bi ac pt pc de oc sa yb yac ypt yde yoc ypc me wk ft ow le op fm fn fs dn sn wn df ar ld rs lq il pn lo rf po st ou va vl yld ytg ylv yfd yst wd dm ds wq dp h g
  have h0 := h
  obtain ⟨⟨n1, n2, n3, n4, n5, n6⟩, h2, h3, h4, h5, h6, h7⟩ := h
  have hM8 : M ≤ 8 := by omega
  have hS12 : S ≤ 12 := by omega
  unfold wpX_cell
  refine xx_cur hM8 hS12 h3 ?_
  cases hc : cs_v M S ow with
  | none =>
    refine br_t (by decide) ?_
    unfold wpY_cell
    refine yy_cur hM8 hS12 h3 ?_
    rw [hc]
    exact br_t (by decide) ⟨rfl, zz_in h0 g⟩
  | some s =>
    obtain ⟨c1, c2⟩ := cs_s hc
    have is : vp_in (nI s) 12 := vp_in_nI (by omega) (by omega)
    have es0 := nI_clamp (n := s) (by omega)
    have ls := h2.1 s
    have el : nA le (nI s).toNatClampNeg = nI (le s) := by rw [es0]; rfl
    have pos : ¬ oI (some s) < 0 := by rw [oi_s]; exact nI_pos (by omega)
    have ycur : ∀ {post : Int32 → SY → Prop}, ((v1 < 0 → post (-2) (nI mm, nI ms, nI mc, nI nm, nI M, nI S, nI F, lk, sa, rn, yb, yac, ypt, yde, yoc, ypc, bA me, nA ow, nA le, nA op, ar, bA wk, vl, nA fm, nA fn, nA fs, bA ft, yld, ytg, ylv, yfd, yst, ou)) ∧ (¬ v1 < 0 → ((v1 ≤ 13 → ((v1 < 7 → wY_cell_45 post v1 v2 (bI w) (nI s) (nI mm) (nI ms) (nI mc) (nI nm) (nI M) (nI S) (nI F) lk sa rn yb yac ypt yde yoc ypc (bA me) (nA ow) (nA le) (nA op) ar (bA wk) vl (nA fm) (nA fn) (nA fs) (bA ft) yld ytg ylv yfd yst ou) ∧ (¬ v1 < 7 → ((v2 < 0 → post (-2) (nI mm, nI ms, nI mc, nI nm, nI M, nI S, nI F, lk, sa, rn, yb, yac, ypt, yde, yoc, ypc, bA me, nA ow, nA le, nA op, ar, bA wk, vl, nA fm, nA fn, nA fs, bA ft, yld, ytg, ylv, yfd, yst, ou)) ∧ (¬ v2 < 0 → ((v2 < nI nm → wY_cell_45 post v1 v2 (bI w) (nI s) (nI mm) (nI ms) (nI mc) (nI nm) (nI M) (nI S) (nI F) lk sa rn yb yac ypt yde yoc ypc (bA me) (nA ow) (nA le) (nA op) ar (bA wk) vl (nA fm) (nA fn) (nA fs) (bA ft) yld ytg ylv yfd yst ou) ∧ (¬ v2 < nI nm → post (-2) (nI mm, nI ms, nI mc, nI nm, nI M, nI S, nI F, lk, sa, rn, yb, yac, ypt, yde, yoc, ypc, bA me, nA ow, nA le, nA op, ar, bA wk, vl, nA fm, nA fn, nA fs, bA ft, yld, ytg, ylv, yfd, yst, ou)))))))) ∧ (¬ v1 ≤ 13 → post (-2) (nI mm, nI ms, nI mc, nI nm, nI M, nI S, nI F, lk, sa, rn, yb, yac, ypt, yde, yoc, ypc, bA me, nA ow, nA le, nA op, ar, bA wk, vl, nA fm, nA fn, nA fs, bA ft, yld, ytg, ylv, yfd, yst, ou))))) → wpY_cell post (nI mm, nI ms, nI mc, nI nm, nI M, nI S, nI F, lk, sa, rn, yb, yac, ypt, yde, yoc, ypc, bA me, nA ow, nA le, nA op, ar, bA wk, vl, nA fm, nA fn, nA fs, bA ft, yld, ytg, ylv, yfd, yst, ou) v1 v2 (bI w) := by
      intro post z
      unfold wpY_cell
      refine yy_cur hM8 hS12 h3 ?_
      rw [hc]
      exact br_f pos z
    refine br_f pos ?_
    by_cases z0 : v1 < 0
    · exact br_t z0 (ycur (br_t z0 ⟨rfl, zz_in h0 g⟩))
    · obtain ⟨o, ho31, rfl⟩ := nI_of z0
      refine br_f z0 ?_
      by_cases z13 : o ≤ 13
      · have h13 : ¬ (13 : Int32) < nI o := by rw [li_tl13 ho31]; omega
        have h13' : nI o ≤ 13 := by rw [li_le13 ho31]; exact z13
        refine br_f h13 ⟨by rw [oi_s]; exact is, ?_⟩
        rw [oi_s, el]
        by_cases hl : le s < mc
        · refine br_t (nI_lt hl (by omega)) ?_
          by_cases ho7 : o < 7
          · have l7 : nI o < 7 := by rw [li_lt7 ho31]; exact ho7
            refine br_t l7 ?_
            unfold wX_cell_49
            refine br_t rfl ?_
            have := xx_c67 (mm := mm) (ms := ms) (mc := mc) (nm := nm) (M := M) (S := S) (lk := lk) (es := es) (lc := lc) (iz := iz) (rn := rn) (bi := bi) (ac := ac) (pt := pt) (pc := pc) (de := de) (oc := oc) (me := me) (wk := wk) (ow := ow) (le := le) (op := op) (dn := dn) (sn := sn) (wn := wn) (df := df) (ar := ar) (ld := ld) (rs := rs) (lq := lq) (il := il) (pn := pn) (lo := lo) (rf := rf) (po := po) (st := st) (ou := ou) (va := va) (wd := wd) (post := fun r u' => wpY_cell (fun r' v' => r' = r ∧ i_Rel (k + 4) u' v') (nI mm, nI ms, nI mc, nI nm, nI M, nI S, nI F, lk, sa, rn, yb, yac, ypt, yde, yoc, ypc, bA me, nA ow, nA le, nA op, ar, bA wk, vl, nA fm, nA fn, nA fs, bA ft, yld, ytg, ylv, yfd, yst, ou) (nI o) v2 (bI w)) (s := s) (o := o) (x := v2) (w := w) h2.1 (by omega) (by have := h3 s (by omega); omega) z13
            rw [decide_eq_false (by omega : ¬ 7 ≤ o), Bool.false_and, if_neg (fun z => by omega)] at this
            refine this (ycur (br_f z0 (br_t h13' (br_t l7 ?_))))
            refine yy_c45 h2.1 (by omega) hl n3 z13 ⟨rfl, ?_⟩
            rw [decide_eq_false (by omega : ¬ 7 ≤ o), Bool.false_and]
            refine zz_in (dm := dm) (ds := ds) (wq := wq) (dp := dp) (rb_cell h0 (by omega) hl z13 (fun z => by omega) h5.2.2.1 ?_) (Or.inl ⟨rfl, rfl⟩)
            intro m n
            exact ⟨Or.inl, fun z => z.elim id (fun y => by omega)⟩
          · have l7 : ¬ nI o < 7 := by rw [li_lt7 ho31]; exact ho7
            refine br_f l7 ?_
            unfold wX_cell_49
            refine br_f (by decide) ?_
            rcases pk_ix v2 (n := nm) (by omega) with z | z | ⟨n, hn, rfl⟩
            · refine xx_nameF (Or.inl z) (br_t rfl (ycur (br_f z0 (br_t h13' (br_f l7 (br_t z ⟨rfl, zz_in h0 g⟩))))))
            · refine xx_nameF (Or.inr z) (br_t rfl (ycur (br_f z0 (br_t h13' (br_f l7 (br_c (fun _ => ⟨rfl, zz_in h0 g⟩) (fun _ => br_f (fun y => Int32.not_lt.mpr z y) ⟨rfl, zz_in h0 g⟩)))))))
            · refine xx_nameT hn n4 (br_f (by decide) ?_)
              have := xx_c67 (mm := mm) (ms := ms) (mc := mc) (nm := nm) (M := M) (S := S) (lk := lk) (es := es) (lc := lc) (iz := iz) (rn := rn) (bi := bi) (ac := ac) (pt := pt) (pc := pc) (de := de) (oc := oc) (me := me) (wk := wk) (ow := ow) (le := le) (op := op) (dn := dn) (sn := sn) (wn := wn) (df := df) (ar := ar) (ld := ld) (rs := rs) (lq := lq) (il := il) (pn := pn) (lo := lo) (rf := rf) (po := po) (st := st) (ou := ou) (va := va) (wd := wd) (post := fun r u' => wpY_cell (fun r' v' => r' = r ∧ i_Rel (k + 4) u' v') (nI mm, nI ms, nI mc, nI nm, nI M, nI S, nI F, lk, sa, rn, yb, yac, ypt, yde, yoc, ypc, bA me, nA ow, nA le, nA op, ar, bA wk, vl, nA fm, nA fn, nA fs, bA ft, yld, ytg, ylv, yfd, yst, ou) (nI o) (nI n) (bI w)) (s := s) (o := o) (x := nI n) (w := w) h2.1 (by omega) (by have := h3 s (by omega); omega) z13
              rw [decide_eq_true (by omega : 7 ≤ o), Bool.true_and] at this
              refine this (ycur (br_f z0 (br_t h13' (br_f l7 (br_f (nI_pos (by omega)) (br_t (nI_lt hn (by omega)) ?_))))))
              refine yy_c45 h2.1 (by omega) hl n3 z13 ⟨rfl, ?_⟩
              rw [decide_eq_true (by omega : 7 ≤ o), Bool.true_and]
              have hcl := nI_clamp (n := n) (by omega)
              cases w with
              | true =>
                rw [if_neg (fun z => by cases z.2)]
                refine zz_in (dm := dm) (ds := ds) (wq := wq) (dp := dp) (rb_cell h0 (by omega) hl z13 (fun _ => ⟨n, hn, rfl⟩) h5.2.2.1 ?_) (Or.inl ⟨rfl, rfl⟩)
                intro m n
                exact ⟨Or.inl, fun z => z.elim id (fun y => by cases y.2.1)⟩
              | false =>
                rw [if_pos ⟨by omega, rfl⟩]
                refine zz_in (dm := dm) (ds := ds) (wq := u2 wq (ow s) n true) (dp := dp) (rb_cell h0 (by omega) hl z13 (fun _ => ⟨n, hn, rfl⟩) (bt_set h5.2.2.1 (by omega)) ?_) (Or.inl ⟨rfl, rfl⟩)
                intro m' n'
                rw [hcl]
                by_cases e : m' = ow s ∧ n' = n
                · rw [e.1, e.2, u2_s]
                  exact ⟨fun _ => Or.inr ⟨by omega, rfl, rfl, rfl⟩, fun _ => rfl⟩
                · rw [u2_n e]
                  exact ⟨Or.inl, fun z => z.elim id (fun y => absurd y.2.2 e)⟩
        · refine br_f (nI_nlt (by omega) (by omega)) (ycur (br_f z0 (br_t h13' ?_)))
          have fin : wY_cell_45 (fun r' v' => r' = -2 ∧ i_Rel (k + 4) (nI mm, nI ms, nI mc, nI nm, nI M, nI S, lk, es, lc, iz, rn, bi, ac, pt, pc, de, oc, bA me, dn, sn, wn, df, nA ow, nA le, nA op, ar, bA wk, ld, rs, lq, il, pn, lo, rf, po, wd, st, ou, va) v') (nI o) v2 (bI w) (nI s) (nI mm) (nI ms) (nI mc) (nI nm) (nI M) (nI S) (nI F) lk sa rn yb yac ypt yde yoc ypc (bA me) (nA ow) (nA le) (nA op) ar (bA wk) vl (nA fm) (nA fn) (nA fs) (bA ft) yld ytg ylv yfd yst ou := yy_c45n h2.1 (by omega) hl ⟨rfl, zz_in h0 g⟩
          refine br_c (fun _ => fin) (fun _ => br_c (fun _ => ⟨rfl, zz_in h0 g⟩) (fun _ => br_c (fun _ => fin) (fun _ => ⟨rfl, zz_in h0 g⟩)))
      · have h13 : (13 : Int32) < nI o := by rw [li_tl13 ho31]; omega
        have h13' : ¬ nI o ≤ 13 := by rw [li_le13 ho31]; exact z13
        exact br_t h13 (ycur (br_f z0 (br_f h13' ⟨rfl, zz_in h0 g⟩)))
end
section
/-! the methods that only read -/
section
variable {mm ms mc nm M S : Nat} {lk es lc iz rn bi ac pt pc de oc : Int32} {me wk : Nat → Bool} {ow le op : Nat → Nat} {dn sn wn df ar ld rs lq il pn lo rf po st ou va : Nat → Int32} {wd : Nat → Int64}
theorem xx_modT {post : Int32 → Prop} {n : Nat} (hn : n < M) (hm : M ≤ 8) (p : post 1) : wpX_isModule post (nI mm, nI ms, nI mc, nI nm, nI M, nI S, lk, es, lc, iz, rn, bi, ac, pt, pc, de, oc, bA me, dn, sn, wn, df, nA ow, nA le, nA op, ar, bA wk, ld, rs, lq, il, pn, lo, rf, po, wd, st, ou, va) (nI n) :=
  br_f (nI_pos (by omega)) (br_f (nI_ge hn (by omega)) p)
theorem xx_modF {post : Int32 → Prop} {x : Int32} (h : x < 0 ∨ nI M ≤ x) (p : post 0) : wpX_isModule post (nI mm, nI ms, nI mc, nI nm, nI M, nI S, lk, es, lc, iz, rn, bi, ac, pt, pc, de, oc, bA me, dn, sn, wn, df, nA ow, nA le, nA op, ar, bA wk, ld, rs, lq, il, pn, lo, rf, po, wd, st, ou, va) x :=
  br_c (fun _ => p) (fun h0 => br_t (h.resolve_left h0) p)
theorem xx_secT {post : Int32 → Prop} {n : Nat} (hn : n < S) (hm : S ≤ 12) (p : post 1) : wpX_isSection post (nI mm, nI ms, nI mc, nI nm, nI M, nI S, lk, es, lc, iz, rn, bi, ac, pt, pc, de, oc, bA me, dn, sn, wn, df, nA ow, nA le, nA op, ar, bA wk, ld, rs, lq, il, pn, lo, rf, po, wd, st, ou, va) (nI n) :=
  br_f (nI_pos (by omega)) (br_f (nI_ge hn (by omega)) p)
theorem xx_secF {post : Int32 → Prop} {x : Int32} (h : x < 0 ∨ nI S ≤ x) (p : post 0) : wpX_isSection post (nI mm, nI ms, nI mc, nI nm, nI M, nI S, lk, es, lc, iz, rn, bi, ac, pt, pc, de, oc, bA me, dn, sn, wn, df, nA ow, nA le, nA op, ar, bA wk, ld, rs, lq, il, pn, lo, rf, po, wd, st, ou, va) x :=
  br_c (fun _ => p) (fun h0 => br_t (h.resolve_left h0) p)
end
theorem i_vc_kind {k : Nat} {u : SX} {v : SY} (I : i_Rel k u v) (hk : k + 4 ≤ 2052) (v1 : Int32) : wpX_kind (fun r => wpY_kind (fun r' => r' = r ∧ i_Rel (k + 4) u v) v v1) u v1 := by
  refine zz_el (P := fun u v => wpX_kind (fun r => wpY_kind (fun r' => r' = r ∧ i_Rel (k + 4) u v) v v1) u v1) ?_ I
  intro mm ms mc nm M S F lk es lc iz rn bi ac pt pc de oc sa yb yac ypt yde yoc ypc me wk ft ow le op fm fn fs dn sn wn df ar ld rs lq il pn lo rf po st ou va vl yld ytg ylv yfd yst wd dm ds wq dp h g
  have h0 := h
  have g0 := g
  obtain ⟨⟨n1, n2, n3, n4, n5, n6⟩, h2, h3, h4, h5, h6, h7⟩ := h
  have J : i_Rel (k + 4) (nI mm, nI ms, nI mc, nI nm, nI M, nI S, lk, es, lc, iz, rn, bi, ac, pt, pc, de, oc, bA me, dn, sn, wn, df, nA ow, nA le, nA op, ar, bA wk, ld, rs, lq, il, pn, lo, rf, po, wd, st, ou, va) (nI mm, nI ms, nI mc, nI nm, nI M, nI S, nI F, lk, sa, rn, yb, yac, ypt, yde, yoc, ypc, bA me, nA ow, nA le, nA op, ar, bA wk, vl, nA fm, nA fn, nA fs, bA ft, yld, ytg, ylv, yfd, yst, ou) := zz_in h0 g0
  unfold wpX_kind
  rcases pk_ix v1 (n := M) (by omega) with z | z | ⟨m, hm, rfl⟩
  · exact xx_modF (Or.inl z) (br_t rfl (br_t z ⟨rfl, J⟩))
  · exact xx_modF (Or.inr z) (br_t rfl (br_c (fun _ => ⟨rfl, J⟩) (fun _ => br_f (fun y => Int32.not_lt.mpr z y) ⟨rfl, J⟩)))
  · refine xx_modT hm (by omega) (br_f (by decide) ?_)
    have im : vp_in (nI m) 8 := vp_in_nI (by omega) (by omega)
    have em := nI_clamp (n := m) (by omega)
    have hY : ∀ post : Int32 → Prop, (((bA me m) = 0 → wY_kind_29 post (nI m) 0 (nI mm) (nI ms) (nI mc) (nI nm) (nI M) (nI S) (nI F) lk sa rn yb yac ypt yde yoc ypc (bA me) (nA ow) (nA le) (nA op) ar (bA wk) vl (nA fm) (nA fn) (nA fs) (bA ft) yld ytg ylv yfd yst ou) ∧ (¬ (bA me m) = 0 → wY_kind_29 post (nI m) 1 (nI mm) (nI ms) (nI mc) (nI nm) (nI M) (nI S) (nI F) lk sa rn yb yac ypt yde yoc ypc (bA me) (nA ow) (nA le) (nA op) ar (bA wk) vl (nA fm) (nA fn) (nA fs) (bA ft) yld ytg ylv yfd yst ou)) → wpY_kind post (nI mm, nI ms, nI mc, nI nm, nI M, nI S, nI F, lk, sa, rn, yb, yac, ypt, yde, yoc, ypc, bA me, nA ow, nA le, nA op, ar, bA wk, vl, nA fm, nA fn, nA fs, bA ft, yld, ytg, ylv, yfd, yst, ou) (nI m) := by
      intro post z
      refine br_f (nI_pos (by omega)) (br_t (nI_lt hm (by omega)) ⟨im, ?_⟩)
      rw [em]
      exact z
    have hz : ∀ z0 : Int32, z0 + 0 = z0 := fun z0 => Int32.add_zero z0
    have k25 : ∀ z0 : Int32, (∀ r, wY_kind_29 (fun r' => r' = r ∧ i_Rel (k + 4) (nI mm, nI ms, nI mc, nI nm, nI M, nI S, lk, es, lc, iz, rn, bi, ac, pt, pc, de, oc, bA me, dn, sn, wn, df, nA ow, nA le, nA op, ar, bA wk, ld, rs, lq, il, pn, lo, rf, po, wd, st, ou, va) (nI mm, nI ms, nI mc, nI nm, nI M, nI S, nI F, lk, sa, rn, yb, yac, ypt, yde, yoc, ypc, bA me, nA ow, nA le, nA op, ar, bA wk, vl, nA fm, nA fn, nA fs, bA ft, yld, ytg, ylv, yfd, yst, ou)) (nI m) z0 (nI mm) (nI ms) (nI mc) (nI nm) (nI M) (nI S) (nI F) lk sa rn yb yac ypt yde yoc ypc (bA me) (nA ow) (nA le) (nA op) ar (bA wk) vl (nA fm) (nA fn) (nA fs) (bA ft) yld ytg ylv yfd yst ou → wpY_kind (fun r' => r' = r ∧ i_Rel (k + 4) (nI mm, nI ms, nI mc, nI nm, nI M, nI S, lk, es, lc, iz, rn, bi, ac, pt, pc, de, oc, bA me, dn, sn, wn, df, nA ow, nA le, nA op, ar, bA wk, ld, rs, lq, il, pn, lo, rf, po, wd, st, ou, va) (nI mm, nI ms, nI mc, nI nm, nI M, nI S, nI F, lk, sa, rn, yb, yac, ypt, yde, yoc, ypc, bA me, nA ow, nA le, nA op, ar, bA wk, vl, nA fm, nA fn, nA fs, bA ft, yld, ytg, ylv, yfd, yst, ou)) (nI mm, nI ms, nI mc, nI nm, nI M, nI S, nI F, lk, sa, rn, yb, yac, ypt, yde, yoc, ypc, bA me, nA ow, nA le, nA op, ar, bA wk, vl, nA fm, nA fn, nA fs, bA ft, yld, ytg, ylv, yfd, yst, ou) (nI m)) → wX_kind_25 (fun r => wpY_kind (fun r' => r' = r ∧ i_Rel (k + 4) (nI mm, nI ms, nI mc, nI nm, nI M, nI S, lk, es, lc, iz, rn, bi, ac, pt, pc, de, oc, bA me, dn, sn, wn, df, nA ow, nA le, nA op, ar, bA wk, ld, rs, lq, il, pn, lo, rf, po, wd, st, ou, va) (nI mm, nI ms, nI mc, nI nm, nI M, nI S, nI F, lk, sa, rn, yb, yac, ypt, yde, yoc, ypc, bA me, nA ow, nA le, nA op, ar, bA wk, vl, nA fm, nA fn, nA fs, bA ft, yld, ytg, ylv, yfd, yst, ou)) (nI mm, nI ms, nI mc, nI nm, nI M, nI S, nI F, lk, sa, rn, yb, yac, ypt, yde, yoc, ypc, bA me, nA ow, nA le, nA op, ar, bA wk, vl, nA fm, nA fn, nA fs, bA ft, yld, ytg, ylv, yfd, yst, ou) (nI m)) (nI m) z0 (nI mm) (nI ms) (nI mc) (nI nm) (nI M) (nI S) lk es lc iz rn bi ac pt pc de oc (bA me) dn sn wn df (nA ow) (nA le) (nA op) ar (bA wk) ld rs lq il pn lo rf po wd st ou va := by
      intro z0 hh
      rcases g with ⟨l1, l2⟩ | ⟨l1, tg, cls, t0, e, rk, rr⟩
      · exact br_t l1 (hh _ (br_t l1 ⟨hz z0, J⟩))
      · have ln : ¬ lk = 0 := by rw [l1]; decide
        have eq := rk.2.1 m hm
        refine br_f ln ⟨im, ?_⟩
        rw [em, eq]
        refine br_c (fun y => hh _ (br_f ln ⟨im, ?_⟩)) (fun y => hh _ (br_f ln ⟨im, ?_⟩))
        · rw [em]
          exact br_t y ⟨hz z0, J⟩
        · rw [em]
          exact br_f y ⟨rfl, J⟩
    refine ⟨im, ?_⟩
    rw [em]
    refine br_c (fun y => k25 0 (fun r w => hY _ (br_t y w))) (fun y => k25 1 (fun r w => hY _ (br_f y w)))
theorem i_vc_owner {k : Nat} {u : SX} {v : SY} (I : i_Rel k u v) (hk : k + 4 ≤ 2052) (v1 : Int32) : wpX_owner (fun r => wpY_owner (fun r' => r' = r ∧ i_Rel (k + 4) u v) v v1) u v1 := by
  refine zz_el (P := fun u v => wpX_owner (fun r => wpY_owner (fun r' => r' = r ∧ i_Rel (k + 4) u v) v v1) u v1) ?_ I
  intro mm ms mc nm M S F lk es lc iz rn bi ac pt pc de oc sa yb yac ypt yde yoc ypc me wk ft ow le op fm fn fs dn sn wn df ar ld rs lq il pn lo rf po st ou va vl yld ytg ylv yfd yst wd dm ds wq dp h g
  have h0 := h
  obtain ⟨⟨n1, n2, n3, n4, n5, n6⟩, h2, h3, h4, h5, h6, h7⟩ := h
  have J : i_Rel (k + 4) (nI mm, nI ms, nI mc, nI nm, nI M, nI S, lk, es, lc, iz, rn, bi, ac, pt, pc, de, oc, bA me, dn, sn, wn, df, nA ow, nA le, nA op, ar, bA wk, ld, rs, lq, il, pn, lo, rf, po, wd, st, ou, va) (nI mm, nI ms, nI mc, nI nm, nI M, nI S, nI F, lk, sa, rn, yb, yac, ypt, yde, yoc, ypc, bA me, nA ow, nA le, nA op, ar, bA wk, vl, nA fm, nA fn, nA fs, bA ft, yld, ytg, ylv, yfd, yst, ou) := zz_in h0 g
  unfold wpX_owner
  rcases pk_ix v1 (n := S) (by omega) with z | z | ⟨m, hm, rfl⟩
  · exact xx_secF (Or.inl z) (br_t rfl (br_t z ⟨rfl, J⟩))
  · exact xx_secF (Or.inr z) (br_t rfl (br_c (fun _ => ⟨rfl, J⟩) (fun _ => br_f (fun y => Int32.not_lt.mpr z y) ⟨rfl, J⟩)))
  · have im : vp_in (nI m) 12 := vp_in_nI (by omega) (by omega)
    exact xx_secT hm (by omega) (br_f (by decide) ⟨im, br_f (nI_pos (by omega)) (br_t (nI_lt hm (by omega)) ⟨im, rfl, J⟩)⟩)
theorem i_vc_defined {k : Nat} {u : SX} {v : SY} (I : i_Rel k u v) (hk : k + 4 ≤ 2052) (v1 : Int32) (v2 : Int32) : wpX_defined (fun r => wpY_defined (fun r' => r' = r ∧ i_Rel (k + 4) u v) v v1 v2) u v1 v2 := by
  refine zz_el (P := fun u v => wpX_defined (fun r => wpY_defined (fun r' => r' = r ∧ i_Rel (k + 4) u v) v v1 v2) u v1 v2) ?_ I
  intro mm ms mc nm M S F lk es lc iz rn bi ac pt pc de oc sa yb yac ypt yde yoc ypc me wk ft ow le op fm fn fs dn sn wn df ar ld rs lq il pn lo rf po st ou va vl yld ytg ylv yfd yst wd dm ds wq dp h g
  have h0 := h
  obtain ⟨⟨n1, n2, n3, n4, n5, n6⟩, h2, h3, h4, h5, h6, h7⟩ := h
  have J : i_Rel (k + 4) (nI mm, nI ms, nI mc, nI nm, nI M, nI S, lk, es, lc, iz, rn, bi, ac, pt, pc, de, oc, bA me, dn, sn, wn, df, nA ow, nA le, nA op, ar, bA wk, ld, rs, lq, il, pn, lo, rf, po, wd, st, ou, va) (nI mm, nI ms, nI mc, nI nm, nI M, nI S, nI F, lk, sa, rn, yb, yac, ypt, yde, yoc, ypc, bA me, nA ow, nA le, nA op, ar, bA wk, vl, nA fm, nA fn, nA fs, bA ft, yld, ytg, ylv, yfd, yst, ou) := zz_in h0 g
  unfold wpX_defined
  rcases pk_ix v1 (n := M) (by omega) with z | z | ⟨m, hm, rfl⟩
  · exact xx_modF (Or.inl z) (br_t rfl (br_t z ⟨rfl, J⟩))
  · exact xx_modF (Or.inr z) (br_t rfl (br_c (fun _ => ⟨rfl, J⟩) (fun _ => br_t z ⟨rfl, J⟩)))
  · refine xx_modT hm (by omega) (br_f (by decide) ?_)
    have y1 : ∀ {A B : Prop}, B → (nI m < 0 → A) ∧ (¬ nI m < 0 → B) := fun b => br_f (nI_pos (by omega)) b
    have y2 : ∀ {A B : Prop}, B → (nI M ≤ nI m → A) ∧ (¬ nI M ≤ nI m → B) := fun b => br_f (nI_ge hm (by omega)) b
    rcases pk_ix v2 (n := nm) (by omega) with z | z | ⟨n, hn, rfl⟩
    · exact xx_nameF (Or.inl z) (br_t rfl (y1 (y2 (br_t z ⟨rfl, J⟩))))
    · exact xx_nameF (Or.inr z) (br_t rfl (y1 (y2 (br_c (fun _ => ⟨rfl, J⟩) (fun _ => br_f (fun y => Int32.not_lt.mpr z y) ⟨rfl, J⟩)))))
    · refine xx_nameT hn n4 (br_f (by decide) (nm_e ?_))
      have im : vp_in (nI m) 8 := vp_in_nI (by omega) (by omega)
      have em := nI_clamp (n := m) (by omega)
      have ec : nI m * 16 + nI n = nI (m * 16 + n) := by rw [li_m16, nI_add]
      have ic : vp_in (nI m * 16 + nI n) 128 := by rw [ec]; exact vp_in_nI (by omega) (by omega)
      rw [em, bt_bit _ (by omega), bt_bit _ (by omega), h5.1 m n (by omega), h5.2.1 m n (by omega)]
      refine ⟨im, ?_⟩
      have fin : ∀ {post : Int32 → Prop}, (dm m n = false → post (-1)) → (dm m n = true → post (2 * nI (dp m n) + bI (ds m n))) → wpY_defined post (nI mm, nI ms, nI mc, nI nm, nI M, nI S, nI F, lk, sa, rn, yb, yac, ypt, yde, yoc, ypc, bA me, nA ow, nA le, nA op, ar, bA wk, vl, nA fm, nA fn, nA fs, bA ft, yld, ytg, ylv, yfd, yst, ou) (nI m) (nI n) := by
        intro post q0 q1
        refine y1 (y2 (br_f (nI_pos (by omega)) (br_t (nI_lt hn (by omega)) ?_)))
        refine yy_fact (dm := dm) (ds := ds) (dp := dp) (by omega) n4 h6 (by omega) (by omega) ?_ ?_
        · intro z
          exact br_f (by decide) (q0 z)
        · intro f f1 f2 f3 f4
          have := h6.1
          have gf := h6.2.1 f f1
          have iF : vp_in (nI f) 128 := vp_in_nI (by omega) (by omega)
          have eF := nI_clamp (n := f) (by omega)
          refine br_t (nI_pos' (by omega)) ⟨iF, iF, ?_⟩
          rw [eF, ba_ap, na_ap, ← gf.2.2.2.1, ← gf.2.2.2.2, f2, f3]
          have q1 := q1 f4
          cases hd : ds m n with
          | false => rw [hd] at q1; exact br_t rfl q1
          | true => rw [hd] at q1; exact br_f (by decide) q1
      cases hd : dm m n with
      | false => exact br_t rfl (fin (fun _ => ⟨rfl, J⟩) (fun z => by rw [hd] at z; cases z))
      | true =>
        have ev : df (nI m * 16 + nI n).toNatClampNeg = nI (dp m n) := by rw [ec, nI_clamp (by omega)]; exact h5.2.2.2 m n hd
        refine br_f (by decide) ⟨im, ?_⟩
        cases hs : ds m n with
        | false =>
          refine br_t rfl ⟨ic, fin (fun z => by rw [hd] at z; cases z) (fun _ => ⟨?_, J⟩)⟩
          rw [ev, hs]
          rfl
        | true =>
          refine br_f (by decide) ⟨ic, fin (fun z => by rw [hd] at z; cases z) (fun _ => ⟨?_, J⟩)⟩
          rw [ev, hs]
          rfl
theorem i_vc_source {k : Nat} {u : SX} {v : SY} (I : i_Rel k u v) (hk : k + 4 ≤ 2052) (v1 : Int32) (v2 : Int32) : wpX_source (fun r => wpY_source (fun r' => r' = r ∧ i_Rel (k + 4) u v) v v1 v2) u v1 v2 := by
  refine zz_el (P := fun u v => wpX_source (fun r => wpY_source (fun r' => r' = r ∧ i_Rel (k + 4) u v) v v1 v2) u v1 v2) ?_ I
  intro mm ms mc nm M S F lk es lc iz rn bi ac pt pc de oc sa yb yac ypt yde yoc ypc me wk ft ow le op fm fn fs dn sn wn df ar ld rs lq il pn lo rf po st ou va vl yld ytg ylv yfd yst wd dm ds wq dp h g
  have h0 := h
  obtain ⟨⟨n1, n2, n3, n4, n5, n6⟩, h2, h3, h4, h5, h6, h7⟩ := h
  have J : i_Rel (k + 4) (nI mm, nI ms, nI mc, nI nm, nI M, nI S, lk, es, lc, iz, rn, bi, ac, pt, pc, de, oc, bA me, dn, sn, wn, df, nA ow, nA le, nA op, ar, bA wk, ld, rs, lq, il, pn, lo, rf, po, wd, st, ou, va) (nI mm, nI ms, nI mc, nI nm, nI M, nI S, nI F, lk, sa, rn, yb, yac, ypt, yde, yoc, ypc, bA me, nA ow, nA le, nA op, ar, bA wk, vl, nA fm, nA fn, nA fs, bA ft, yld, ytg, ylv, yfd, yst, ou) := zz_in h0 g
  unfold wpX_source
  rcases pk_ix v1 (n := S) (by omega) with z | z | ⟨s, hs, rfl⟩
  · exact xx_secF (Or.inl z) (br_t rfl (br_t z ⟨rfl, J⟩))
  · exact xx_secF (Or.inr z) (br_t rfl (br_c (fun _ => ⟨rfl, J⟩) (fun _ => br_t z ⟨rfl, J⟩)))
  · refine xx_secT hs (by omega) (br_f (by decide) ?_)
    have is : vp_in (nI s) 12 := vp_in_nI (by omega) (by omega)
    have es0 := nI_clamp (n := s) (by omega)
    have ls := h2.1 s
    have el : nA le (nI s).toNatClampNeg = nI (le s) := by rw [es0]; rfl
    have y1 : ∀ {A B : Prop}, B → (nI s < 0 → A) ∧ (¬ nI s < 0 → B) := fun b => br_f (nI_pos (by omega)) b
    have y2 : ∀ {A B : Prop}, B → (nI S ≤ nI s → A) ∧ (¬ nI S ≤ nI s → B) := fun b => br_f (nI_ge hs (by omega)) b
    by_cases z0 : v2 < 0
    · exact br_t z0 (y1 (y2 (br_t z0 ⟨rfl, J⟩)))
    · refine br_f z0 ⟨is, ?_⟩
      by_cases z1 : v2 < nA le (nI s).toNatClampNeg
      · have z2 := z1
        obtain ⟨o, ho31, rfl⟩ := nI_of z0
        rw [el, nI_ltI ho31 (by omega)] at z2
        have ec : nI s * 16 + nI o = nI (s * 16 + o) := by rw [li_m16, nI_add]
        have ic : vp_in (nI (s * 16 + o)) 192 := vp_in_nI (by omega) (by omega)
        refine br_t z1 (nm_r ec ⟨ic, ic, ?_⟩)
        refine br_c (fun w => nm_e ⟨ic, ?_⟩) (fun w => nm_e ⟨ic, ?_⟩)
        · exact y1 (y2 (br_f z0 ⟨is, br_t z1 (nm_r ec ⟨ic, ic, br_t w ⟨ic, rfl, J⟩⟩)⟩))
        · exact y1 (y2 (br_f z0 ⟨is, br_t z1 (nm_r ec ⟨ic, ic, br_f w ⟨ic, rfl, J⟩⟩)⟩))
      · exact br_f z1 (y1 (y2 (br_f z0 ⟨is, br_f z1 ⟨rfl, J⟩⟩)))
theorem i_vc_resolve {k : Nat} {u : SX} {v : SY} (I : i_Rel k u v) (hk : k + 4 ≤ 2052) (v1 : Int32) : wpX_resolve (fun r => wpY_resolve (fun r' => r' = r ∧ i_Rel (k + 4) u v) v v1) u v1 := by
  refine zz_el (P := fun u v => wpX_resolve (fun r => wpY_resolve (fun r' => r' = r ∧ i_Rel (k + 4) u v) v v1) u v1) ?_ I
  intro mm ms mc nm M S F lk es lc iz rn bi ac pt pc de oc sa yb yac ypt yde yoc ypc me wk ft ow le op fm fn fs dn sn wn df ar ld rs lq il pn lo rf po st ou va vl yld ytg ylv yfd yst wd dm ds wq dp h g
  have h0 := h
  obtain ⟨⟨n1, n2, n3, n4, n5, n6⟩, h2, h3, h4, h5, h6, h7⟩ := h
  have J : i_Rel (k + 4) (nI mm, nI ms, nI mc, nI nm, nI M, nI S, lk, es, lc, iz, rn, bi, ac, pt, pc, de, oc, bA me, dn, sn, wn, df, nA ow, nA le, nA op, ar, bA wk, ld, rs, lq, il, pn, lo, rf, po, wd, st, ou, va) (nI mm, nI ms, nI mc, nI nm, nI M, nI S, nI F, lk, sa, rn, yb, yac, ypt, yde, yoc, ypc, bA me, nA ow, nA le, nA op, ar, bA wk, vl, nA fm, nA fn, nA fs, bA ft, yld, ytg, ylv, yfd, yst, ou) := zz_in h0 g
  rcases g with ⟨l1, l2⟩ | ⟨l1, tg, cls, t0, e, rk, rr⟩
  · exact br_t l1 (br_t l1 ⟨rfl, J⟩)
  · have ln : ¬ lk = 0 := by rw [l1]; decide
    obtain ⟨r1, r2, r3, r4, r5, r6, r7, r8, r9, r10, r11⟩ := rk
    refine br_f ln ?_
    rcases pk_ix v1 (n := nm) (by omega) with z | z | ⟨n, hn, rfl⟩
    · exact xx_nameF (Or.inl z) (br_t rfl (br_f ln (br_t z ⟨rfl, J⟩)))
    · exact xx_nameF (Or.inr z) (br_t rfl (br_f ln (br_c (fun _ => ⟨rfl, J⟩) (fun _ => br_f (fun y => Int32.not_lt.mpr z y) ⟨rfl, J⟩))))
    · have inn : vp_in (nI n) 16 := vp_in_nI (by omega) (by omega)
      refine xx_nameT hn n4 (br_f (by decide) ⟨inn, br_f ln (br_f (nI_pos (by omega)) (br_t (nI_lt hn (by omega)) ⟨inn, ?_, J⟩))⟩)
      rw [nI_clamp (by omega), r3 n hn, r4 n hn]
theorem i_vc_leader {k : Nat} {u : SX} {v : SY} (I : i_Rel k u v) (hk : k + 4 ≤ 2052) (v1 : Int32) : wpX_leader (fun r => wpY_leader (fun r' => r' = r ∧ i_Rel (k + 4) u v) v v1) u v1 := by
  refine zz_el (P := fun u v => wpX_leader (fun r => wpY_leader (fun r' => r' = r ∧ i_Rel (k + 4) u v) v v1) u v1) ?_ I
  intro mm ms mc nm M S F lk es lc iz rn bi ac pt pc de oc sa yb yac ypt yde yoc ypc me wk ft ow le op fm fn fs dn sn wn df ar ld rs lq il pn lo rf po st ou va vl yld ytg ylv yfd yst wd dm ds wq dp h g
  have h0 := h
  obtain ⟨⟨n1, n2, n3, n4, n5, n6⟩, h2, h3, h4, h5, h6, h7⟩ := h
  have J : i_Rel (k + 4) (nI mm, nI ms, nI mc, nI nm, nI M, nI S, lk, es, lc, iz, rn, bi, ac, pt, pc, de, oc, bA me, dn, sn, wn, df, nA ow, nA le, nA op, ar, bA wk, ld, rs, lq, il, pn, lo, rf, po, wd, st, ou, va) (nI mm, nI ms, nI mc, nI nm, nI M, nI S, nI F, lk, sa, rn, yb, yac, ypt, yde, yoc, ypc, bA me, nA ow, nA le, nA op, ar, bA wk, vl, nA fm, nA fn, nA fs, bA ft, yld, ytg, ylv, yfd, yst, ou) := zz_in h0 g
  rcases g with ⟨l1, l2⟩ | ⟨l1, tg, cls, t0, e, rk, rr⟩
  · exact br_t l1 (br_t l1 ⟨rfl, J⟩)
  · have ln : ¬ lk = 0 := by rw [l1]; decide
    obtain ⟨r1, r2, r3, r4, r5, r6, r7, r8, r9, r10, r11⟩ := rk
    refine br_f ln ?_
    rcases pk_ix v1 (n := S) (by omega) with z | z | ⟨n, hn, rfl⟩
    · exact xx_secF (Or.inl z) (br_t rfl (br_f ln (br_t z ⟨rfl, J⟩)))
    · exact xx_secF (Or.inr z) (br_t rfl (br_f ln (br_c (fun _ => ⟨rfl, J⟩) (fun _ => br_f (fun y => Int32.not_lt.mpr z y) ⟨rfl, J⟩))))
    · have inn : vp_in (nI n) 12 := vp_in_nI (by omega) (by omega)
      refine xx_secT hn (by omega) (br_f (by decide) ⟨inn, ?_⟩)
      refine yy_leader (cls := cls) (by omega) ln r11 hn ⟨?_, J⟩
      rw [nI_clamp (by omega), r7 n hn]
theorem i_vc_place {k : Nat} {u : SX} {v : SY} (I : i_Rel k u v) (hk : k + 4 ≤ 2052) (v1 : Int32) : wpX_place (fun r => wpY_place (fun r' => r' = r ∧ i_Rel (k + 4) u v) v v1) u v1 := by
  refine zz_el (P := fun u v => wpX_place (fun r => wpY_place (fun r' => r' = r ∧ i_Rel (k + 4) u v) v v1) u v1) ?_ I
  intro mm ms mc nm M S F lk es lc iz rn bi ac pt pc de oc sa yb yac ypt yde yoc ypc me wk ft ow le op fm fn fs dn sn wn df ar ld rs lq il pn lo rf po st ou va vl yld ytg ylv yfd yst wd dm ds wq dp h g
  have h0 := h
  obtain ⟨⟨n1, n2, n3, n4, n5, n6⟩, h2, h3, h4, h5, h6, h7⟩ := h
  have J : i_Rel (k + 4) (nI mm, nI ms, nI mc, nI nm, nI M, nI S, lk, es, lc, iz, rn, bi, ac, pt, pc, de, oc, bA me, dn, sn, wn, df, nA ow, nA le, nA op, ar, bA wk, ld, rs, lq, il, pn, lo, rf, po, wd, st, ou, va) (nI mm, nI ms, nI mc, nI nm, nI M, nI S, nI F, lk, sa, rn, yb, yac, ypt, yde, yoc, ypc, bA me, nA ow, nA le, nA op, ar, bA wk, vl, nA fm, nA fn, nA fs, bA ft, yld, ytg, ylv, yfd, yst, ou) := zz_in h0 g
  have ylead : ∀ {post : Int32 → Prop}, wpY_leader (fun r_1 => ((0 ≤ r_1 → ∃ n17 : Nat, wY_place_17 post r_1 (nI mm) (nI ms) (nI mc) (nI nm) (nI M) (nI S) (nI F) lk sa rn yb yac ypt yde yoc ypc (bA me) (nA ow) (nA le) (nA op) ar (bA wk) vl (nA fm) (nA fn) (nA fs) (bA ft) yld ytg ylv yfd yst ou n17 1 0) ∧ (¬ 0 ≤ r_1 → post r_1))) (nI mm, nI ms, nI mc, nI nm, nI M, nI S, nI F, lk, sa, rn, yb, yac, ypt, yde, yoc, ypc, bA me, nA ow, nA le, nA op, ar, bA wk, vl, nA fm, nA fn, nA fs, bA ft, yld, ytg, ylv, yfd, yst, ou) v1 → wpY_place post (nI mm, nI ms, nI mc, nI nm, nI M, nI S, nI F, lk, sa, rn, yb, yac, ypt, yde, yoc, ypc, bA me, nA ow, nA le, nA op, ar, bA wk, vl, nA fm, nA fn, nA fs, bA ft, yld, ytg, ylv, yfd, yst, ou) v1 := fun h => h
  rcases g with ⟨l1, l2⟩ | ⟨l1, tg, cls, t0, e, rk, rr⟩
  · exact br_t l1 (ylead (br_t l1 (br_f (by decide) ⟨rfl, J⟩)))
  · have ln : ¬ lk = 0 := by rw [l1]; decide
    obtain ⟨r1, r2, r3, r4, r5, r6, r7, r8, r9, r10, r11⟩ := rk
    refine br_f ln ?_
    rcases pk_ix v1 (n := S) (by omega) with z | z | ⟨n, hn, rfl⟩
    · exact xx_secF (Or.inl z) (br_t rfl (ylead (br_f ln (br_t z (br_f (by decide) ⟨rfl, J⟩)))))
    · exact xx_secF (Or.inr z) (br_t rfl (ylead (br_f ln (br_c (fun _ => br_f (by decide) ⟨rfl, J⟩) (fun _ => br_f (fun y => Int32.not_lt.mpr z y) (br_f (by decide) ⟨rfl, J⟩))))))
    · have inn : vp_in (nI n) 12 := vp_in_nI (by omega) (by omega)
      refine xx_secT hn (by omega) (br_f (by decide) ⟨inn, ?_⟩)
      refine yy_place (cls := cls) (by omega) h2.1 ln r11 (fun s p hp => (r6.1 s p hp).2.1) hn ⟨?_, J⟩
      rw [nI_clamp (by omega), r8 n hn]
theorem rk_cx {S : Nat} {le op : Nat → Nat} {ar : Nat → Int32} {tg : Nat → Option Nat} (h : ∀ n x, tg n = some x → x / 16 < S ∧ x % 16 ≤ le (x / 16)) : ∀ c x, pd_ct op ar tg c = some x → x / 16 < S := by
  intro c x hc
  obtain ⟨n, hn⟩ := lk_ctv hc
  exact (h n x hn).1
theorem i_vc_peek {k : Nat} {u : SX} {v : SY} (I : i_Rel k u v) (hk : k + 4 ≤ 2052) (v1 : Int32) : wpX_peek (fun r => wpY_peek (fun r' => r' = r ∧ i_Rel (k + 4) u v) v v1) u v1 := by
  refine zz_el (P := fun u v => wpX_peek (fun r => wpY_peek (fun r' => r' = r ∧ i_Rel (k + 4) u v) v v1) u v1) ?_ I
  intro mm ms mc nm M S F lk es lc iz rn bi ac pt pc de oc sa yb yac ypt yde yoc ypc me wk ft ow le op fm fn fs dn sn wn df ar ld rs lq il pn lo rf po st ou va vl yld ytg ylv yfd yst wd dm ds wq dp h g
  have h0 := h
  obtain ⟨⟨n1, n2, n3, n4, n5, n6⟩, h2, h3, h4, h5, h6, h7⟩ := h
  have J : i_Rel (k + 4) (nI mm, nI ms, nI mc, nI nm, nI M, nI S, lk, es, lc, iz, rn, bi, ac, pt, pc, de, oc, bA me, dn, sn, wn, df, nA ow, nA le, nA op, ar, bA wk, ld, rs, lq, il, pn, lo, rf, po, wd, st, ou, va) (nI mm, nI ms, nI mc, nI nm, nI M, nI S, nI F, lk, sa, rn, yb, yac, ypt, yde, yoc, ypc, bA me, nA ow, nA le, nA op, ar, bA wk, vl, nA fm, nA fn, nA fs, bA ft, yld, ytg, ylv, yfd, yst, ou) := zz_in h0 g
  rcases g with ⟨l1, l2⟩ | ⟨l1, tg, cls, t0, e, rk, rr⟩
  · exact br_t l1 (br_t l1 ⟨rfl, J⟩)
  · have ln : ¬ lk = 0 := by rw [l1]; decide
    obtain ⟨r1, r2, r3, r4, r5, r6, r7, r8, r9, r10, r11⟩ := rk
    refine br_f ln ?_
    by_cases z0 : v1 < 0
    · exact br_t z0 (br_f ln (br_f (Int32.not_le.mpr z0) ⟨rfl, J⟩))
    · obtain ⟨a, ha, rfl⟩ := nI_of z0
      have hb := ly_bd (cls := cls) h2.1 S
      refine br_f z0 ?_
      by_cases z1 : a < ly_nx cls le S
      · refine br_t (by rw [r9]; exact nI_lt z1 (by omega)) ⟨vp_in_nI (by omega) (by omega), ?_⟩
        refine yy_peek (tg := tg) (cls := cls) (wd := wd) (by omega) n4 h2 ln r4 (rk_cx r5) r11 r6 r10 ha ⟨?_, J⟩
        rw [if_pos z1, nI_clamp ha]
      · refine br_f (by rw [r9]; exact nI_nlt (by omega) ha) ?_
        refine yy_peek (tg := tg) (cls := cls) (wd := wd) (by omega) n4 h2 ln r4 (rk_cx r5) r11 r6 r10 ha ⟨?_, J⟩
        rw [if_neg z1]
theorem i_vc_spot {k : Nat} {u : SX} {v : SY} (I : i_Rel k u v) (hk : k + 4 ≤ 2052) : wpX_spot (fun r => wpY_spot (fun r' => r' = r ∧ i_Rel (k + 4) u v) v) u := by
  refine zz_el (P := fun u v => wpX_spot (fun r => wpY_spot (fun r' => r' = r ∧ i_Rel (k + 4) u v) v) u) ?_ I
  intro mm ms mc nm M S F lk es lc iz rn bi ac pt pc de oc sa yb yac ypt yde yoc ypc me wk ft ow le op fm fn fs dn sn wn df ar ld rs lq il pn lo rf po st ou va vl yld ytg ylv yfd yst wd dm ds wq dp h g
  have h0 := h
  obtain ⟨⟨n1, n2, n3, n4, n5, n6⟩, h2, h3, h4, h5, h6, h7⟩ := h
  have J : i_Rel (k + 4) (nI mm, nI ms, nI mc, nI nm, nI M, nI S, lk, es, lc, iz, rn, bi, ac, pt, pc, de, oc, bA me, dn, sn, wn, df, nA ow, nA le, nA op, ar, bA wk, ld, rs, lq, il, pn, lo, rf, po, wd, st, ou, va) (nI mm, nI ms, nI mc, nI nm, nI M, nI S, nI F, lk, sa, rn, yb, yac, ypt, yde, yoc, ypc, bA me, nA ow, nA le, nA op, ar, bA wk, vl, nA fm, nA fn, nA fs, bA ft, yld, ytg, ylv, yfd, yst, ou) := zz_in h0 g
  rcases g with ⟨l1, l2⟩ | ⟨l1, tg, cls, t0, e, rk, rr⟩
  · exact br_t l2 (br_t l2 ⟨rfl, J⟩)
  · have ln : ¬ lk = 0 := by rw [l1]; decide
    obtain ⟨r1, r2, r3, r4, r5, r6, r7, r8, r9, r10, r11⟩ := rk
    rcases rr with l2 | ⟨l2, b, x, q, q1, q2, q3, q4, q5, q6, q7, q8⟩
    · exact br_t l2 (br_t l2 ⟨rfl, J⟩)
    · have rn1 : ¬ rn = 0 := by rw [l2]; decide
      refine br_f rn1 (br_f rn1 ?_)
      have e6 : pc = sp_x b cls le x := q6
      cases b with
      | false =>
        refine br_t q2 ⟨?_, J⟩
        rw [q7, q6]
        rfl
      | true =>
        refine br_f (by rw [q2]; decide) ?_
        have eP : pc = nI (ly_ad cls le x) := q6
        have key : ∀ post : Int32 → Prop, post pc → wpY_addressOf post (nI mm, nI ms, nI mc, nI nm, nI M, nI S, nI F, lk, sa, rn, yb, yac, ypt, yde, yoc, oI x, bA me, nA ow, nA le, nA op, ar, bA wk, vl, nA fm, nA fn, nA fs, bA ft, yld, ytg, ylv, yfd, yst, ou) (oI x) := by
          intro post hp
          refine yy_adr (cls := cls) (by omega) h2.1 ln r11 (fun s p hp => (r6.1 s p hp).2.1) ?_ ?_
          · intro t ht
            obtain ⟨z, _⟩ := q8 t ht
            refine ⟨?_, z⟩
            cases hc : cls (t / 16) with
            | none => exact absurd hc z
            | some p => exact (r6.1 _ p hc).1
          · rw [← eP]; exact hp
        subst q7
        exact key _ ⟨rfl, J⟩
theorem i_vc_output {k : Nat} {u : SX} {v : SY} (I : i_Rel k u v) (hk : k + 4 ≤ 2052) (v1 : Int32) : wpX_output (fun r => wpY_output (fun r' => r' = r ∧ i_Rel (k + 4) u v) v v1) u v1 := by
  refine zz_el (P := fun u v => wpX_output (fun r => wpY_output (fun r' => r' = r ∧ i_Rel (k + 4) u v) v v1) u v1) ?_ I
  intro mm ms mc nm M S F lk es lc iz rn bi ac pt pc de oc sa yb yac ypt yde yoc ypc me wk ft ow le op fm fn fs dn sn wn df ar ld rs lq il pn lo rf po st ou va vl yld ytg ylv yfd yst wd dm ds wq dp h g
  have h0 := h
  have J : i_Rel (k + 4) (nI mm, nI ms, nI mc, nI nm, nI M, nI S, lk, es, lc, iz, rn, bi, ac, pt, pc, de, oc, bA me, dn, sn, wn, df, nA ow, nA le, nA op, ar, bA wk, ld, rs, lq, il, pn, lo, rf, po, wd, st, ou, va) (nI mm, nI ms, nI mc, nI nm, nI M, nI S, nI F, lk, sa, rn, yb, yac, ypt, yde, yoc, ypc, bA me, nA ow, nA le, nA op, ar, bA wk, vl, nA fm, nA fn, nA fs, bA ft, yld, ytg, ylv, yfd, yst, ou) := zz_in h0 g
  rcases g with ⟨l1, l2⟩ | ⟨l1, tg, cls, t0, e, rk, rr⟩
  · exact br_t l2 (br_t l2 ⟨rfl, J⟩)
  · rcases rr with l2 | ⟨l2, b, x, q, q1, q2, q3, q4, q5, q6, q7, q8⟩
    · exact br_t l2 (br_t l2 ⟨rfl, J⟩)
    · have rn1 : ¬ rn = 0 := by rw [l2]; decide
      refine br_f rn1 ?_
      by_cases z0 : v1 < 0
      · exact br_t z0 (br_f rn1 (br_t z0 ⟨rfl, J⟩))
      · refine br_f z0 ?_
        by_cases z1 : v1 < oc
        · have z2 : v1 < yoc := by rw [q4, ← q3]; exact z1
          have inn : vp_in v1 16 := by
            obtain ⟨a, ha, rfl⟩ := nI_of z0
            rw [q3, nI_ltI ha (by omega)] at z1
            exact vp_in_nI (by omega) (by omega)
          exact br_t z1 ⟨inn, br_f rn1 (br_f z0 (br_t z2 ⟨inn, rfl, J⟩))⟩
        · have z2 : ¬ v1 < yoc := by rw [q4, ← q3]; exact z1
          exact br_f z1 (br_f rn1 (br_f z0 (br_f z2 ⟨rfl, J⟩)))
theorem i_vc_link {k : Nat} {u : SX} {v : SY} (I : i_Rel k u v) (hk : k + 4 ≤ 2052) (v1 : Int32) : wpX_link (fun r u' => wpY_link (fun r' v' => r' = r ∧ i_Rel (k + 4) u' v') v v1) u v1 := by
  refine zz_el (P := fun u v => wpX_link (fun r u' => wpY_link (fun r' v' => r' = r ∧ i_Rel (k + 4) u' v') v v1) u v1) ?_ I
  intro mm ms mc nm M S F lk es lc iz rn bi ac pt pc de oc sa yb yac ypt yde yoc ypc me wk ft ow le op fm fn fs dn sn wn df ar ld rs lq il pn lo rf po st ou va vl yld ytg ylv yfd yst wd dm ds wq dp h g
  have h0 := h
  obtain ⟨⟨n1, n2, n3, n4, n5, n6⟩, h2, h3, h4, h5, h6, h7⟩ := h
  rcases pk_ix v1 (n := nm) (by omega) with z | z | ⟨e, he, rfl⟩
  · exact xx_linkF (Or.inl z) (br_t z ⟨rfl, zz_in h0 g⟩)
  · exact xx_linkF (Or.inr z) (br_c (fun _ => ⟨rfl, zz_in h0 g⟩) (fun _ => br_f (fun y => Int32.not_lt.mpr z y) ⟨rfl, zz_in h0 g⟩))
  · refine xx_link (dm := dm) (ds := ds) (wq := wq) (dp := dp) (by omega) (by omega) n4 he h2 h4 h5 ?_ ?_ ?_
    · intro hdup ld
      refine yy_link (dm := dm) (ds := ds) (wq := wq) (dp := dp) (by omega) (by omega) n4 he h2 h3 h4 h6 h7 ?_ ?_ ?_
      · intro _ yld
        exact ⟨rfl, zz_in h0 (Or.inl ⟨rfl, rfl⟩)⟩
      · intro hn
        exact absurd hdup hn
      · intro hn
        exact absurd hdup hn
    · intro hn hu es lc ld rs lq il pn
      refine yy_link (dm := dm) (ds := ds) (wq := wq) (dp := dp) (by omega) (by omega) n4 he h2 h3 h4 h6 h7 ?_ ?_ ?_
      · intro hdup
        exact absurd hdup hn
      · intro _ _ yld ytg ylv
        exact ⟨rfl, zz_in h0 (Or.inl ⟨rfl, rfl⟩)⟩
      · intro _ t0 ht hb
        rcases hu with z | ⟨t, z1, z2⟩
        · rw [ht] at z; cases z
        · rw [ht] at z1; cases z1
          exact absurd z2 hb
    · intro hn t0 ht hb cls lc ld rs lq il pn lo rf po wd a1 a2 a3 a4 a5 a6 a7
      refine yy_link (dm := dm) (ds := ds) (wq := wq) (dp := dp) (by omega) (by omega) n4 he h2 h3 h4 h6 h7 ?_ ?_ ?_
      · intro hdup
        exact absurd hdup hn
      · intro _ hu
        rcases hu with z | ⟨t, z1, z2⟩
        · rw [ht] at z; cases z
        · rw [ht] at z1; cases z1
          exact absurd z2 hb
      · intro _ t0' ht' _ yld ytg ylv yfd b1 b2 b3
        have et : t0' = t0 := Option.some.inj (ht'.symm.trans ht)
        subst et
        have htv : ∀ n x, lk_tg M dm ds wq dp me e n = some x → x / 16 < S ∧ x % 16 ≤ le (x / 16) := fun n x hx => lk_tgv h4 hx
        have hcx := rk_cx (op := op) (ar := ar) htv
        have hlS := lk_lvS (le := le) (ct := pd_ct op ar (lk_tg M dm ds wq dp me e)) (htv e t0' ht).1 hcx
        refine ⟨rfl, zz_in h0 (Or.inr ⟨rfl, lk_tg M dm ds wq dp me e, cls, t0', e, ⟨⟨rfl, he, rfl, ht, ?_⟩, ?_, a2, fun n hn => b2 n (by omega), htv, lk_of hlS pf_lc a3 a4, a5, a6, rfl, a7, yl_of (by omega) hlS a3 a4 b3⟩, Or.inl rfl⟩)⟩
        · exact fun z => (a3.1 _).mp z pf_l0
        · intro m hm
          rw [a1 m hm, b1 m hm]
end
section
/-! a word of the image, taken apart -/
theorem wo_int (x : Int32) {o : Nat} (ho : o < 16) : ((nI o).toInt64 + 16 * x.toInt64).toInt = (o : Int) + 16 * x.toInt := by
  have h1 := x.le_toInt
  have h2 := x.toInt_lt
  have e16 : (16 : Int64).toInt = 16 := by decide
  rw [Int64.toInt_add, Int64.toInt_mul, Int32.toInt_toInt64, Int32.toInt_toInt64, nI_toInt (by omega), e16]
  rw [Int.bmod_eq_of_le (n := 16 * x.toInt) (by omega) (by omega)]
  exact Int.bmod_eq_of_le (by omega) (by omega)
theorem wo_shr (x : Int32) {o : Nat} (ho : o < 16) : (((nI o).toInt64 + 16 * x.toInt64) >>> ((4 : Int32).toInt64 &&& 63)).toInt32 = x := by
  have h1 := x.le_toInt
  have h2 := x.toInt_lt
  apply Int32.toInt_inj.mp
  have e : (((nI o).toInt64 + 16 * x.toInt64) >>> ((4 : Int32).toInt64 &&& 63)).toInt = ((nI o).toInt64 + 16 * x.toInt64).toInt >>> 4 := by
    have hD : (((4 : Int32).toInt64 &&& 63).toBitVec.smod 64).toNat = 4 := by decide
    show (((nI o).toInt64 + 16 * x.toInt64).toBitVec.sshiftRight (((4 : Int32).toInt64 &&& 63).toBitVec.smod 64).toNat).toInt = _
    rw [hD]
    exact BitVec.toInt_sshiftRight ..
  rw [Int64.toInt_toInt32, e, wo_int x ho, Int.shiftRight_eq_div_pow]
  have e2 : ((o : Int) + 16 * x.toInt) / ((2 ^ 4 : Nat) : Int) = x.toInt := by
    show ((o : Int) + 16 * x.toInt) / 16 = x.toInt
    omega
  rw [e2]
  exact Int.bmod_eq_of_le (by omega) (by omega)
theorem wo_and (x : Int32) {o : Nat} (ho : o < 16) : (((nI o).toInt64 + 16 * x.toInt64) &&& 15).toInt32 = nI o := by
  have h := wo_int x ho
  generalize (nI o).toInt64 + 16 * x.toInt64 = w at h
  have e : w &&& 15 = lN o := by
    apply Int64.toBitVec_inj.mp
    apply BitVec.eq_of_toNat_eq
    have h15 : (15 : Int64).toBitVec.toNat = 2 ^ 4 - 1 := by decide
    rw [Int64.toBitVec_and, BitVec.toNat_and, h15, Nat.and_two_pow_sub_one_eq_mod]
    show _ = (BitVec.ofNat 64 o).toNat
    rw [BitVec.toNat_ofNat, Nat.mod_eq_of_lt (a := o) (b := 2 ^ 64) (by omega)]
    have h2 : w.toInt = w.toBitVec.toInt := rfl
    rw [h2, BitVec.toInt_eq_toNat_cond] at h
    have := w.toBitVec.isLt
    split at h <;> omega
  rw [e, lN_i]
theorem wo_0a : ((0 : Int64) &&& 15).toInt32 = 0 := by decide
end
section
/-! the machine: what X reads of the present engine -/
def mc_ok (nm S : Nat) (iz : Int32) (le op : Nat → Nat) (ar rs : Nat → Int32) (wd : Nat → Int64) (ytg : Nat → Int32) (tg cls : Nat → Option Nat) : Prop :=
  S ≤ 12 ∧ nm ≤ 16 ∧ ce_ok nm S le op ar ∧ (∀ n, n < nm → rs n = oI (tg n)) ∧ (∀ n, n < nm → ytg n = oI (tg n)) ∧ (∀ n x, tg n = some x → x / 16 < S ∧ x % 16 ≤ le (x / 16)) ∧ lk_ok S le op ar (pd_ct op ar tg) cls ∧ iz = nI (ly_nx cls le S) ∧ ly_wok op ar (pd_ct op ar tg) cls le wd S
section
variable {nm S : Nat} {iz : Int32} {le op : Nat → Nat} {ar rs : Nat → Int32} {wd : Nat → Int64} {ytg : Nat → Int32} {tg cls : Nat → Option Nat}
theorem mc_at (C : mc_ok nm S iz le op ar rs wd ytg tg cls) {t : Nat} (h1 : cls (t / 16) ≠ none) (h2 : t % 16 ≤ le (t / 16)) : ∃ p, cls (t / 16) = some p ∧ p < S ∧ cls p = some p ∧ le p = le (t / 16) ∧ ly_ad cls le (some t) = ly_nx cls le p + t % 16 ∧ ly_nx cls le p + t % 16 < ly_nx cls le S ∧ ly_nx cls le S < 160 := by
  obtain ⟨c1, c2, c3, c4, c5, c6, c7, c8, c9⟩ := C
  cases hc : cls (t / 16) with
  | none => exact absurd hc h1
  | some p =>
    obtain ⟨k1, k2, k3, k4⟩ := c7.1 _ p hc
    have hlt := ly_lt (le := le) k3 (by omega : p < S)
    have hb := ly_bd (cls := cls) c3.1 S
    have hl := k4.1
    refine ⟨p, rfl, by omega, k3, hl, ?_, by omega, by omega⟩
    show ly_ps cls le (t / 16) + t % 16 = _
    rw [ly_pss hc]
theorem mc_cell (C : mc_ok nm S iz le op ar rs wd ytg tg cls) {t : Nat} (h1 : cls (t / 16) ≠ none) (h2 : t % 16 < le (t / 16)) : ∃ q, wd (ly_ad cls le (some t)) = ly_w op ar (pd_ct op ar tg) cls le q (ly_ad cls le (some t)) ∧ pf_ca op ar (pd_ct op ar tg) (pf_rc cls) q t := by
  obtain ⟨p, p1, p2, p3, p4, p5, p6, p7⟩ := mc_at C h1 (by omega)
  obtain ⟨c1, c2, c3, c4, c5, c6, c7, c8, c9⟩ := C
  obtain ⟨k1, k2, k3, k4⟩ := c7.1 _ p p1
  refine ⟨p * 16 + t % 16, ?_, ?_⟩
  · rw [p5]
    exact (c9.2 p p2 p3).1 (t % 16) (by omega)
  · have := k4.2 (t % 16) (by omega)
    rw [pf_sp] at this
    exact this
theorem mc_end (C : mc_ok nm S iz le op ar rs wd ytg tg cls) {t : Nat} (h1 : cls (t / 16) ≠ none) (h2 : t % 16 = le (t / 16)) : wd (ly_ad cls le (some t)) = 0 := by
  obtain ⟨p, p1, p2, p3, p4, p5, p6, p7⟩ := mc_at C h1 (by omega)
  obtain ⟨c1, c2, c3, c4, c5, c6, c7, c8, c9⟩ := C
  rw [p5, h2, ← p4]
  exact (c9.2 p p2 p3).2
theorem mc_S (C : mc_ok nm S iz le op ar rs wd ytg tg cls) {t : Nat} (h1 : cls (t / 16) ≠ none) : t / 16 < S := by
  cases hc : cls (t / 16) with
  | none => exact absurd hc h1
  | some p => exact (C.2.2.2.2.2.2.1.1 _ p hc).1
theorem mc_inj (C : mc_ok nm S iz le op ar rs wd ytg tg cls) {t u : Nat} (h1 : cls (t / 16) ≠ none) (h2 : t % 16 ≤ le (t / 16)) (g1 : cls (u / 16) ≠ none) (g2 : u % 16 ≤ le (u / 16)) (hp : ∀ s, cls s = cls (u / 16) → s = u / 16) (e : ly_ad cls le (some t) = ly_ad cls le (some u)) : t = u := by
  obtain ⟨p, p1, p2, p3, p4, p5, p6, p7⟩ := mc_at C h1 h2
  obtain ⟨q, q1, q2, q3, q4, q5, q6, q7⟩ := mc_at C g1 g2
  rw [p5, q5] at e
  obtain ⟨e1, e2⟩ := ly_inj p3 q3 (by omega) (by omega) e
  have := hp (t / 16) (by rw [p1, q1, e1])
  omega
theorem mc_pos (C : mc_ok nm S iz le op ar rs wd ytg tg cls) {t : Nat} (h1 : cls (t / 16) ≠ none) (h2 : t % 16 ≤ le (t / 16)) : 1 ≤ ly_ad cls le (some t) := by
  obtain ⟨p, p1, p2, p3, p4, p5, p6, p7⟩ := mc_at C h1 h2
  have := ly_1 (cls := cls) (le := le) p
  omega
theorem mc_lt (C : mc_ok nm S iz le op ar rs wd ytg tg cls) {x : Option Nat} (h : sp_ok cls le x) : ly_ad cls le x < ly_nx cls le S ∧ ly_nx cls le S < 160 := by
  have hb := ly_bd (cls := cls) C.2.2.1.1 S
  have h1 := ly_1 (cls := cls) (le := le) S
  have hS := C.1
  cases x with
  | none => exact ⟨h1, by omega⟩
  | some t =>
    obtain ⟨z1, z2⟩ := h t rfl
    obtain ⟨p, p1, p2, p3, p4, p5, p6, p7⟩ := mc_at C z1 z2
    rw [p5]
    exact ⟨p6, p7⟩
theorem mc_ct (C : mc_ok nm S iz le op ar rs wd ytg tg cls) {t : Nat} (h1 : cls (t / 16) ≠ none) (h2 : t % 16 < le (t / 16)) : sp_ok cls le (pd_ct op ar tg t) := by
  intro u hu
  obtain ⟨n, hn⟩ := lk_ctv hu
  exact ⟨C.2.2.2.2.2.2.1.2.1 t u h1 h2 hu, (C.2.2.2.2.2.1 n u hn).2⟩
theorem sp_1 (C : mc_ok nm S iz le op ar rs wd ytg tg cls) {b : Bool} {t : Nat} (h2 : t % 16 < le (t / 16)) : sp_x b cls le (some t) + 1 = sp_x b cls le (some (t + 1)) := by
  have l := C.2.2.1.1 (t / 16)
  have e1 : (t + 1) / 16 = t / 16 := by omega
  have e2 : (t + 1) % 16 = t % 16 + 1 := by omega
  cases b with
  | false => exact nI_1 t
  | true =>
    show nI (ly_ad cls le (some t)) + 1 = nI (ly_ad cls le (some (t + 1)))
    rw [nI_1]
    apply congrArg nI
    show ly_ps cls le (t / 16) + t % 16 + 1 = ly_ps cls le ((t + 1) / 16) + (t + 1) % 16
    rw [e1, e2]
    rfl
theorem sp_1o (C : mc_ok nm S iz le op ar rs wd ytg tg cls) {t : Nat} (h1 : cls (t / 16) ≠ none) (h2 : t % 16 < le (t / 16)) : sp_ok cls le (some (t + 1)) := by
  have l := C.2.2.1.1 (t / 16)
  have e1 : (t + 1) / 16 = t / 16 := by omega
  intro u hu
  cases hu
  rw [e1]
  exact ⟨h1, by omega⟩
theorem sp_f (x : Option Nat) : sp_x false cls le x = oI x := rfl
theorem sp_t (x : Option Nat) : sp_x true cls le x = nI (ly_ad cls le x) := rfl
end
section
variable {mm ms mc nm M S : Nat} {lk es lc iz rn bi ac pt pc de oc : Int32} {me wk : Nat → Bool} {ow le op : Nat → Nat} {dn sn wn df ar ld rs lq il pn lo rf po st ou va : Nat → Int32} {wd : Nat → Int64} {ytg : Nat → Int32} {bb : Bool} {xo yo : Option Nat} {dd qq : Nat} {tg cls : Nat → Option Nat}
theorem xx_opC {post : Int32 → Prop} {t : Nat} (C : mc_ok nm S iz le op ar rs wd ytg tg cls) (h1 : cls (t / 16) ≠ none) (h2 : t % 16 < le (t / 16)) (p : post (nI (op t))) : wpX_opAt post (nI mm, nI ms, nI mc, nI nm, nI M, nI S, lk, es, lc, iz, rn, bI bb, ac, pt, pc, de, oc, bA me, dn, sn, wn, df, nA ow, nA le, nA op, ar, bA wk, ld, rs, lq, il, pn, lo, rf, po, wd, st, ou, va) (sp_x bb cls le (some t)) := by
  have hS := mc_S C h1
  have o13 := C.2.2.1.2.2.1 t
  have l := C.2.2.1.1 (t / 16)
  have h12 := C.1
  cases bb with
  | false =>
    rw [sp_f, oi_s]
    have e1 : nI t >>> ((4 : Int32) &&& 31) = nI (t / 16) := li_sh (by omega)
    have e2 : nI t &&& 15 = nI (t % 16) := li_an (by omega)
    refine br_t (nI_pos' (by omega)) (br_t rfl (nm_r e1 (br_f (nI_ge hS (by omega)) ⟨vp_in_nI (by omega) (by omega), ?_⟩)))
    rw [nI_clamp (n := t / 16) (by omega), na_ap, e2]
    refine br_f (nI_ge h2 (by omega)) ⟨vp_in_nI (by omega) (by omega), ?_⟩
    rw [nI_clamp (n := t) (by omega), na_ap]
    exact p
  | true =>
    rw [sp_t]
    obtain ⟨q, q1, q2⟩ := mc_cell C h1 h2
    have lt := mc_lt C (x := some t) (fun u hu => by cases hu; exact ⟨h1, by omega⟩)
    refine br_t (nI_pos' (by omega)) (br_f (by decide) (br_f (by rw [C.2.2.2.2.2.2.2.1]; exact nI_ge lt.1 (by omega)) ⟨vp_in_nI (by omega) (by omega), ?_⟩))
    rw [nI_clamp (by omega), q1]
    unfold ly_w
    rw [q2.1, wo_and _ (by omega)]
    exact p
theorem xx_opN {post : Int32 → Prop} (C : mc_ok nm S iz le op ar rs wd ytg tg cls) (h : sp_ok cls le xo) (hn : ∀ t, xo = some t → ¬ t % 16 < le (t / 16)) (p : post 0) : wpX_opAt post (nI mm, nI ms, nI mc, nI nm, nI M, nI S, lk, es, lc, iz, rn, bI bb, ac, pt, pc, de, oc, bA me, dn, sn, wn, df, nA ow, nA le, nA op, ar, bA wk, ld, rs, lq, il, pn, lo, rf, po, wd, st, ou, va) (sp_x bb cls le xo) := by
  have h12 := C.1
  have lt := mc_lt C h
  cases xo with
  | none =>
    cases bb with
    | false => exact br_f (by show ¬ (0 : Int32) ≤ -1; decide) p
    | true =>
      refine br_t (by show (0 : Int32) ≤ nI 0; decide) (br_f (by decide) (br_f (by rw [C.2.2.2.2.2.2.2.1]; exact nI_ge (a := 0) lt.1 (by omega)) ⟨vp_in_nI (n := 0) (by omega) (by omega), ?_⟩))
      have e : wd (sp_x true cls le none).toNatClampNeg = 0 := C.2.2.2.2.2.2.2.2.1
      rw [e, wo_0a]
      exact p
  | some t =>
    obtain ⟨h1, h2⟩ := h t rfl
    have h3 := hn t rfl
    have hS := mc_S C h1
    have l := C.2.2.1.1 (t / 16)
    cases bb with
    | false =>
      rw [sp_f, oi_s]
      have e1 : nI t >>> ((4 : Int32) &&& 31) = nI (t / 16) := li_sh (by omega)
      have e2 : nI t &&& 15 = nI (t % 16) := li_an (by omega)
      refine br_t (nI_pos' (by omega)) (br_t rfl (nm_r e1 (br_f (nI_ge hS (by omega)) ⟨vp_in_nI (by omega) (by omega), ?_⟩)))
      rw [nI_clamp (n := t / 16) (by omega), na_ap, e2]
      exact br_t (nI_le (by omega) (by omega)) p
    | true =>
      rw [sp_t]
      refine br_t (nI_pos' (by omega)) (br_f (by decide) (br_f (by rw [C.2.2.2.2.2.2.2.1]; exact nI_ge lt.1 (by omega)) ⟨vp_in_nI (by omega) (by omega), ?_⟩))
      rw [nI_clamp (by omega), mc_end C h1 (by omega), wo_0a]
      exact p
theorem xx_opd {post : Int32 → Prop} {t : Nat} (C : mc_ok nm S iz le op ar rs wd ytg tg cls) (h1 : cls (t / 16) ≠ none) (h2 : t % 16 < le (t / 16)) (h7 : op t < 7) (p : post (ar t)) : wpX_operandAt post (nI mm, nI ms, nI mc, nI nm, nI M, nI S, lk, es, lc, iz, rn, bI bb, ac, pt, pc, de, oc, bA me, dn, sn, wn, df, nA ow, nA le, nA op, ar, bA wk, ld, rs, lq, il, pn, lo, rf, po, wd, st, ou, va) (sp_x bb cls le (some t)) := by
  have hS := mc_S C h1
  have h12 := C.1
  cases bb with
  | false =>
    refine br_t rfl ⟨vp_in_nI (n := t) (by omega) (by omega), ?_⟩
    have e : (sp_x false cls le (some t)).toNatClampNeg = t := nI_clamp (n := t) (by omega)
    rw [e]
    exact p
  | true =>
    rw [sp_t]
    obtain ⟨q, q1, q2⟩ := mc_cell C h1 h2
    have lt := mc_lt C (x := some t) (fun u hu => by cases hu; exact ⟨h1, by omega⟩)
    refine br_f (by decide) ⟨vp_in_nI (by omega) (by omega), ?_⟩
    have oq := q2.1
    rw [nI_clamp (by omega), q1]
    unfold ly_w
    rw [wo_shr _ (by omega)]
    have : ly_opd op ar (pd_ct op ar tg) cls le q (ly_ad cls le (some t)) = ar q := if_pos (by omega)
    rw [this, q2.2.1 (by omega)]
    exact p
theorem xx_tgh {post : Int32 → Prop} {t : Nat} (C : mc_ok nm S iz le op ar rs wd ytg tg cls) (h1 : cls (t / 16) ≠ none) (h2 : t % 16 < le (t / 16)) (h7 : 7 ≤ op t) (p : post (sp_x bb cls le (pd_ct op ar tg t))) : wpX_targetHere post (nI mm, nI ms, nI mc, nI nm, nI M, nI S, lk, es, lc, iz, rn, bI bb, ac, pt, sp_x bb cls le (some t), de, oc, bA me, dn, sn, wn, df, nA ow, nA le, nA op, ar, bA wk, ld, rs, lq, il, pn, lo, rf, po, wd, st, ou, va) (nI (op t)) := by
  have hS := mc_S C h1
  have h12 := C.1
  have o13 := C.2.2.1.2.2.1 t
  cases bb with
  | false =>
    refine br_t rfl ?_
    exact xx_target (tg := tg) (c := t) (by omega) C.2.1 o13 (C.2.2.1.2.2.2 t) C.2.2.2.1 p
  | true =>
    obtain ⟨q, q1, q2⟩ := mc_cell C h1 h2
    have lt := mc_lt C (x := some t) (fun u hu => by cases hu; exact ⟨h1, by omega⟩)
    have oq := q2.1
    rw [sp_t] at p
    have e : (sp_x true cls le (some t)).toNatClampNeg = ly_ad cls le (some t) := nI_clamp (by omega)
    have ev : ((wd (ly_ad cls le (some t))) >>> ((4 : Int32).toInt64 &&& 63)).toInt32 = ly_opd op ar (pd_ct op ar tg) cls le q (ly_ad cls le (some t)) := by
      rw [q1]
      unfold ly_w
      exact wo_shr _ (by omega)
    have ec := lk_ct C.2.2.2.2.2.2.1 q2
    refine br_f (by decide) (br_f (by decide) ⟨vp_in_nI (n := ly_ad cls le (some t)) (by omega) (by omega), ?_⟩)
    rw [e, ev]
    refine xx_rel o13 ?_ ?_
    · intro hr
      have : ly_opd op ar (pd_ct op ar tg) cls le q (ly_ad cls le (some t)) = nI (ly_ad cls le (pd_ct op ar tg t)) - nI (ly_ad cls le (some t)) := by
        unfold ly_opd
        rw [if_neg (by omega), if_pos (by omega), ec]
      refine br_f (by decide) ?_
      rw [this, sp_t]
      have e3 : nI (ly_ad cls le (some t)) + (nI (ly_ad cls le (pd_ct op ar tg t)) - nI (ly_ad cls le (some t))) = nI (ly_ad cls le (pd_ct op ar tg t)) := by
        rw [Int32.add_comm, Int32.sub_add_cancel]
      rw [e3]
      exact p
    · intro hr
      have : ly_opd op ar (pd_ct op ar tg) cls le q (ly_ad cls le (some t)) = nI (ly_ad cls le (pd_ct op ar tg t)) := by
        unfold ly_opd
        rw [if_neg (by omega), if_neg (by omega), ec]
      refine br_t rfl ?_
      rw [this]
      exact p
end
end
section
/-! one step of X, by its opcode -/
def sp_i (b : Bool) (cls : Nat → Option Nat) (le : Nat → Nat) (u : Nat) : Nat := if b = true then ly_ad cls le (some u) else u
theorem sp_xi (b : Bool) (cls : Nat → Option Nat) (le : Nat → Nat) (u : Nat) : sp_x b cls le (some u) = nI (sp_i b cls le u) := by cases b <;> rfl
section
variable {mm ms mc nm M S : Nat} {lk es lc iz rn bi ac pt pc de oc : Int32} {me wk : Nat → Bool} {ow le op : Nat → Nat} {dn sn wn df ar ld rs lq il pn lo rf po st ou va : Nat → Int32} {wd : Nat → Int64} {ytg : Nat → Int32} {bb : Bool} {xo yo : Option Nat} {dd qq : Nat} {tg cls : Nat → Option Nat}
theorem sp_il (C : mc_ok nm S iz le op ar rs wd ytg tg cls) {u : Nat} (h : sp_ok cls le (some u)) : sp_i bb cls le u < 192 := by
  have h12 := C.1
  have lt := mc_lt C h
  have hS := mc_S C (h u rfl).1
  cases bb with
  | false => show u < 192; omega
  | true => show ly_ad cls le (some u) < 192; omega
theorem xx_sN {post : Int32 → SX → Prop} (C : mc_ok nm S iz le op ar rs wd ytg tg cls) (h : sp_ok cls le xo) (hn : ∀ t, xo = some t → ¬ t % 16 < le (t / 16)) (p : post 0 (nI mm, nI ms, nI mc, nI nm, nI M, nI S, lk, es, lc, iz, rn, bI bb, ac, pt, sp_x bb cls le xo, de, oc, bA me, dn, sn, wn, df, nA ow, nA le, nA op, ar, bA wk, ld, rs, lq, il, pn, lo, rf, po, wd, st, ou, va)) : wpX_step post (nI mm, nI ms, nI mc, nI nm, nI M, nI S, lk, es, lc, iz, rn, bI bb, ac, pt, sp_x bb cls le xo, de, oc, bA me, dn, sn, wn, df, nA ow, nA le, nA op, ar, bA wk, ld, rs, lq, il, pn, lo, rf, po, wd, st, ou, va) := by
  unfold wpX_step
  refine xx_opN C h hn ?_
  exact br_f (by decide) (br_t (by decide) ⟨rfl, p⟩)
theorem xx_s01 {post : Int32 → SX → Prop} {t : Nat} (C : mc_ok nm S iz le op ar rs wd ytg tg cls) (h1 : cls (t / 16) ≠ none) (h2 : t % 16 < le (t / 16)) (ho : op t ≤ 1) (p : post 0 (nI mm, nI ms, nI mc, nI nm, nI M, nI S, lk, es, lc, iz, rn, bI bb, ac, pt, sp_x bb cls le (some t), de, oc, bA me, dn, sn, wn, df, nA ow, nA le, nA op, ar, bA wk, ld, rs, lq, il, pn, lo, rf, po, wd, st, ou, va)) : wpX_step post (nI mm, nI ms, nI mc, nI nm, nI M, nI S, lk, es, lc, iz, rn, bI bb, ac, pt, sp_x bb cls le (some t), de, oc, bA me, dn, sn, wn, df, nA ow, nA le, nA op, ar, bA wk, ld, rs, lq, il, pn, lo, rf, po, wd, st, ou, va) := by
  unfold wpX_step
  refine xx_opC C h1 h2 ?_
  exact br_f (by rw [li_el7 (by omega)]; omega) (br_t (by rw [li_lt2 (by omega)]; omega) ⟨rfl, p⟩)
theorem xx_s2 {post : Int32 → SX → Prop} {t : Nat} (C : mc_ok nm S iz le op ar rs wd ytg tg cls) (h1 : cls (t / 16) ≠ none) (h2 : t % 16 < le (t / 16)) (ho : op t = 2) (p : post 1 (nI mm, nI ms, nI mc, nI nm, nI M, nI S, lk, es, lc, iz, rn, bI bb, ar t, pt, sp_x bb cls le (some (t + 1)), de, oc, bA me, dn, sn, wn, df, nA ow, nA le, nA op, ar, bA wk, ld, rs, lq, il, pn, lo, rf, po, wd, st, ou, va)) : wpX_step post (nI mm, nI ms, nI mc, nI nm, nI M, nI S, lk, es, lc, iz, rn, bI bb, ac, pt, sp_x bb cls le (some t), de, oc, bA me, dn, sn, wn, df, nA ow, nA le, nA op, ar, bA wk, ld, rs, lq, il, pn, lo, rf, po, wd, st, ou, va) := by
  unfold wpX_step
  refine xx_opC C h1 h2 ?_
  rw [ho]
  refine br_f (by decide) (br_f (by decide) (br_f (by decide) (br_t (by decide) ?_)))
  refine xx_opd C h1 h2 (by omega) ?_
  exact nm_r (sp_1 C h2) ⟨rfl, p⟩
theorem xx_s3 {post : Int32 → SX → Prop} {t : Nat} (C : mc_ok nm S iz le op ar rs wd ytg tg cls) (h1 : cls (t / 16) ≠ none) (h2 : t % 16 < le (t / 16)) (ho : op t = 3) (p : post 1 (nI mm, nI ms, nI mc, nI nm, nI M, nI S, lk, es, lc, iz, rn, bI bb, ac + ar t, pt, sp_x bb cls le (some (t + 1)), de, oc, bA me, dn, sn, wn, df, nA ow, nA le, nA op, ar, bA wk, ld, rs, lq, il, pn, lo, rf, po, wd, st, ou, va)) : wpX_step post (nI mm, nI ms, nI mc, nI nm, nI M, nI S, lk, es, lc, iz, rn, bI bb, ac, pt, sp_x bb cls le (some t), de, oc, bA me, dn, sn, wn, df, nA ow, nA le, nA op, ar, bA wk, ld, rs, lq, il, pn, lo, rf, po, wd, st, ou, va) := by
  unfold wpX_step
  refine xx_opC C h1 h2 ?_
  rw [ho]
  refine br_f (by decide) (br_f (by decide) (br_f (by decide) (br_f (by decide) (br_t (by decide) ?_))))
  refine xx_opd C h1 h2 (by omega) ?_
  exact nm_e (nm_r (sp_1 C h2) ⟨rfl, p⟩)
theorem xx_s4 {post : Int32 → SX → Prop} {t : Nat} (C : mc_ok nm S iz le op ar rs wd ytg tg cls) (h1 : cls (t / 16) ≠ none) (h2 : t % 16 < le (t / 16)) (ho : op t = 4) (hq : qq ≤ 16) (p0 : ¬ qq < 16 → post 0 (nI mm, nI ms, nI mc, nI nm, nI M, nI S, lk, es, lc, iz, rn, bI bb, ac, pt, sp_x bb cls le (some t), de, nI qq, bA me, dn, sn, wn, df, nA ow, nA le, nA op, ar, bA wk, ld, rs, lq, il, pn, lo, rf, po, wd, st, ou, va)) (p : qq < 16 → post 1 (nI mm, nI ms, nI mc, nI nm, nI M, nI S, lk, es, lc, iz, rn, bI bb, ac, pt, sp_x bb cls le (some (t + 1)), de, nI (qq + 1), bA me, dn, sn, wn, df, nA ow, nA le, nA op, ar, bA wk, ld, rs, lq, il, pn, lo, rf, po, wd, st, upd ou qq ac, va)) : wpX_step post (nI mm, nI ms, nI mc, nI nm, nI M, nI S, lk, es, lc, iz, rn, bI bb, ac, pt, sp_x bb cls le (some t), de, nI qq, bA me, dn, sn, wn, df, nA ow, nA le, nA op, ar, bA wk, ld, rs, lq, il, pn, lo, rf, po, wd, st, ou, va) := by
  unfold wpX_step
  refine xx_opC C h1 h2 ?_
  rw [ho]
  refine br_f (by decide) (br_f (by decide) (br_f (by decide) (br_f (by decide) (br_f (by decide) (br_t (by decide) ?_)))))
  by_cases h : qq < 16
  · refine br_t (nI_lt (b := 16) h (by decide)) ⟨vp_in_nI h (by decide), nm_r (e' := upd ou qq ac) (by rw [nI_clamp (by omega)]) (nm_r (nI_1 qq) (nm_r (sp_1 C h2) ⟨rfl, p h⟩))⟩
  · exact br_f (nI_nlt (b := 16) (by omega) (by omega)) ⟨rfl, p0 h⟩
theorem xx_s5 {post : Int32 → SX → Prop} {t : Nat} (C : mc_ok nm S iz le op ar rs wd ytg tg cls) (h1 : cls (t / 16) ≠ none) (h2 : t % 16 < le (t / 16)) (ho : op t = 5) (hq : dd ≤ 8) (p0 : dd = 0 → post 0 (nI mm, nI ms, nI mc, nI nm, nI M, nI S, lk, es, lc, iz, rn, bI bb, ac, pt, sp_x bb cls le (some t), nI dd, oc, bA me, dn, sn, wn, df, nA ow, nA le, nA op, ar, bA wk, ld, rs, lq, il, pn, lo, rf, po, wd, st, ou, va)) (p : 1 ≤ dd → post 1 (nI mm, nI ms, nI mc, nI nm, nI M, nI S, lk, es, lc, iz, rn, bI bb, ac, pt, st (dd - 1), nI (dd - 1), oc, bA me, dn, sn, wn, df, nA ow, nA le, nA op, ar, bA wk, ld, rs, lq, il, pn, lo, rf, po, wd, st, ou, va)) : wpX_step post (nI mm, nI ms, nI mc, nI nm, nI M, nI S, lk, es, lc, iz, rn, bI bb, ac, pt, sp_x bb cls le (some t), nI dd, oc, bA me, dn, sn, wn, df, nA ow, nA le, nA op, ar, bA wk, ld, rs, lq, il, pn, lo, rf, po, wd, st, ou, va) := by
  unfold wpX_step
  refine xx_opC C h1 h2 ?_
  rw [ho]
  refine br_f (by decide) (br_f (by decide) (br_f (by decide) (br_f (by decide) (br_f (by decide) (br_f (by decide) (br_t (by decide) ?_))))))
  by_cases h : dd = 0
  · exact br_f (by rw [li_tl0 (by omega)]; omega) ⟨rfl, rfl, p0 h⟩
  · refine br_t (by rw [li_tl0 (by omega)]; omega) (nm_r (li_sb (by omega)) ⟨vp_in_nI (by omega) (by decide), nm_r (e' := st (dd - 1)) (by rw [nI_clamp (by omega)]) ⟨rfl, rfl, p (by omega)⟩⟩)
theorem xx_ent {post : Int32 → SX → Prop} {t : Nat} {y : Int32} (C : mc_ok nm S iz le op ar rs wd ytg tg cls) (h2 : t % 16 < le (t / 16)) (hq : dd ≤ 8) (p0 : ¬ dd < 8 → post 0 (nI mm, nI ms, nI mc, nI nm, nI M, nI S, lk, es, lc, iz, rn, bI bb, ac, pt, sp_x bb cls le (some t), nI dd, oc, bA me, dn, sn, wn, df, nA ow, nA le, nA op, ar, bA wk, ld, rs, lq, il, pn, lo, rf, po, wd, st, ou, va)) (p : dd < 8 → post 1 (nI mm, nI ms, nI mc, nI nm, nI M, nI S, lk, es, lc, iz, rn, bI bb, ac, pt, y, nI (dd + 1), oc, bA me, dn, sn, wn, df, nA ow, nA le, nA op, ar, bA wk, ld, rs, lq, il, pn, lo, rf, po, wd, upd st dd (sp_x bb cls le (some (t + 1))), ou, va)) : wpX_enter post (nI mm, nI ms, nI mc, nI nm, nI M, nI S, lk, es, lc, iz, rn, bI bb, ac, pt, sp_x bb cls le (some t), nI dd, oc, bA me, dn, sn, wn, df, nA ow, nA le, nA op, ar, bA wk, ld, rs, lq, il, pn, lo, rf, po, wd, st, ou, va) y := by
  by_cases h : dd < 8
  · refine br_t (nI_lt (b := 8) h (by decide)) ⟨vp_in_nI h (by decide), nm_r (e' := upd st dd (sp_x bb cls le (some (t + 1)))) (by rw [nI_clamp (by omega), sp_1 C h2]) (nm_r (nI_1 dd) (p h))⟩
  · exact br_f (nI_nlt (b := 8) (by omega) (by omega)) (p0 h)
theorem xx_s6 {post : Int32 → SX → Prop} {t : Nat} (C : mc_ok nm S iz le op ar rs wd ytg tg cls) (h1 : cls (t / 16) ≠ none) (h2 : t % 16 < le (t / 16)) (ho : op t = 6) (hq : dd ≤ 8) (p0 : ¬ dd < 8 → post 0 (nI mm, nI ms, nI mc, nI nm, nI M, nI S, lk, es, lc, iz, rn, bI bb, ac, pt, sp_x bb cls le (some t), nI dd, oc, bA me, dn, sn, wn, df, nA ow, nA le, nA op, ar, bA wk, ld, rs, lq, il, pn, lo, rf, po, wd, st, ou, va)) (p : dd < 8 → post 1 (nI mm, nI ms, nI mc, nI nm, nI M, nI S, lk, es, lc, iz, rn, bI bb, ac, pt, pt, nI (dd + 1), oc, bA me, dn, sn, wn, df, nA ow, nA le, nA op, ar, bA wk, ld, rs, lq, il, pn, lo, rf, po, wd, upd st dd (sp_x bb cls le (some (t + 1))), ou, va)) : wpX_step post (nI mm, nI ms, nI mc, nI nm, nI M, nI S, lk, es, lc, iz, rn, bI bb, ac, pt, sp_x bb cls le (some t), nI dd, oc, bA me, dn, sn, wn, df, nA ow, nA le, nA op, ar, bA wk, ld, rs, lq, il, pn, lo, rf, po, wd, st, ou, va) := by
  unfold wpX_step
  refine xx_opC C h1 h2 ?_
  rw [ho]
  refine br_f (by decide) (br_f (by decide) (br_f (by decide) (br_f (by decide) (br_f (by decide) (br_f (by decide) (br_f (by decide) (br_t (by decide) ?_)))))))
  exact xx_ent C h2 hq (fun h => ⟨rfl, rfl, p0 h⟩) (fun h => ⟨rfl, rfl, p h⟩)
theorem xx_s7 {post : Int32 → SX → Prop} {t : Nat} (C : mc_ok nm S iz le op ar rs wd ytg tg cls) (h1 : cls (t / 16) ≠ none) (h2 : t % 16 < le (t / 16)) (ho : op t = 7) (hq : dd ≤ 8) (p0 : ¬ dd < 8 → post 0 (nI mm, nI ms, nI mc, nI nm, nI M, nI S, lk, es, lc, iz, rn, bI bb, ac, pt, sp_x bb cls le (some t), nI dd, oc, bA me, dn, sn, wn, df, nA ow, nA le, nA op, ar, bA wk, ld, rs, lq, il, pn, lo, rf, po, wd, st, ou, va)) (p : dd < 8 → post 1 (nI mm, nI ms, nI mc, nI nm, nI M, nI S, lk, es, lc, iz, rn, bI bb, ac, pt, sp_x bb cls le (pd_ct op ar tg t), nI (dd + 1), oc, bA me, dn, sn, wn, df, nA ow, nA le, nA op, ar, bA wk, ld, rs, lq, il, pn, lo, rf, po, wd, upd st dd (sp_x bb cls le (some (t + 1))), ou, va)) : wpX_step post (nI mm, nI ms, nI mc, nI nm, nI M, nI S, lk, es, lc, iz, rn, bI bb, ac, pt, sp_x bb cls le (some t), nI dd, oc, bA me, dn, sn, wn, df, nA ow, nA le, nA op, ar, bA wk, ld, rs, lq, il, pn, lo, rf, po, wd, st, ou, va) := by
  unfold wpX_step
  refine xx_opC C h1 h2 ?_
  refine br_t (by rw [ho]; decide) (xx_tgh C h1 h2 (by omega) ?_)
  rw [ho]
  refine br_f (by decide) (br_t (by decide) ?_)
  exact xx_ent C h2 hq (fun h => ⟨rfl, rfl, p0 h⟩) (fun h => ⟨rfl, rfl, p h⟩)
theorem xx_s8 {post : Int32 → SX → Prop} {t : Nat} (C : mc_ok nm S iz le op ar rs wd ytg tg cls) (h1 : cls (t / 16) ≠ none) (h2 : t % 16 < le (t / 16)) (ho : op t = 8) (p : post 1 (nI mm, nI ms, nI mc, nI nm, nI M, nI S, lk, es, lc, iz, rn, bI bb, ac, pt, sp_x bb cls le (pd_ct op ar tg t), de, oc, bA me, dn, sn, wn, df, nA ow, nA le, nA op, ar, bA wk, ld, rs, lq, il, pn, lo, rf, po, wd, st, ou, va)) : wpX_step post (nI mm, nI ms, nI mc, nI nm, nI M, nI S, lk, es, lc, iz, rn, bI bb, ac, pt, sp_x bb cls le (some t), de, oc, bA me, dn, sn, wn, df, nA ow, nA le, nA op, ar, bA wk, ld, rs, lq, il, pn, lo, rf, po, wd, st, ou, va) := by
  unfold wpX_step
  refine xx_opC C h1 h2 ?_
  refine br_t (by rw [ho]; decide) (xx_tgh C h1 h2 (by omega) ?_)
  rw [ho]
  exact br_f (by decide) (br_f (by decide) (br_t (by decide) ⟨rfl, p⟩))
theorem xx_s9 {post : Int32 → SX → Prop} {t : Nat} (C : mc_ok nm S iz le op ar rs wd ytg tg cls) (h1 : cls (t / 16) ≠ none) (h2 : t % 16 < le (t / 16)) (ho : op t = 9) (p0 : ac = 0 → post 1 (nI mm, nI ms, nI mc, nI nm, nI M, nI S, lk, es, lc, iz, rn, bI bb, ac, pt, sp_x bb cls le (pd_ct op ar tg t), de, oc, bA me, dn, sn, wn, df, nA ow, nA le, nA op, ar, bA wk, ld, rs, lq, il, pn, lo, rf, po, wd, st, ou, va)) (p : ¬ ac = 0 → post 1 (nI mm, nI ms, nI mc, nI nm, nI M, nI S, lk, es, lc, iz, rn, bI bb, ac, pt, sp_x bb cls le (some (t + 1)), de, oc, bA me, dn, sn, wn, df, nA ow, nA le, nA op, ar, bA wk, ld, rs, lq, il, pn, lo, rf, po, wd, st, ou, va)) : wpX_step post (nI mm, nI ms, nI mc, nI nm, nI M, nI S, lk, es, lc, iz, rn, bI bb, ac, pt, sp_x bb cls le (some t), de, oc, bA me, dn, sn, wn, df, nA ow, nA le, nA op, ar, bA wk, ld, rs, lq, il, pn, lo, rf, po, wd, st, ou, va) := by
  unfold wpX_step
  refine xx_opC C h1 h2 ?_
  refine br_t (by rw [ho]; decide) (xx_tgh C h1 h2 (by omega) ?_)
  rw [ho]
  exact br_f (by decide) (br_f (by decide) (br_f (by decide) (br_c (fun h => ⟨rfl, p0 h⟩) (fun h => nm_r (sp_1 C h2) ⟨rfl, p h⟩))))
theorem xx_s12 {post : Int32 → SX → Prop} {t : Nat} (C : mc_ok nm S iz le op ar rs wd ytg tg cls) (h1 : cls (t / 16) ≠ none) (h2 : t % 16 < le (t / 16)) (ho : op t = 12) (p : post 1 (nI mm, nI ms, nI mc, nI nm, nI M, nI S, lk, es, lc, iz, rn, bI bb, ac, sp_x bb cls le (pd_ct op ar tg t), sp_x bb cls le (some (t + 1)), de, oc, bA me, dn, sn, wn, df, nA ow, nA le, nA op, ar, bA wk, ld, rs, lq, il, pn, lo, rf, po, wd, st, ou, va)) : wpX_step post (nI mm, nI ms, nI mc, nI nm, nI M, nI S, lk, es, lc, iz, rn, bI bb, ac, pt, sp_x bb cls le (some t), de, oc, bA me, dn, sn, wn, df, nA ow, nA le, nA op, ar, bA wk, ld, rs, lq, il, pn, lo, rf, po, wd, st, ou, va) := by
  unfold wpX_step
  refine xx_opC C h1 h2 ?_
  refine br_t (by rw [ho]; decide) (xx_tgh C h1 h2 (by omega) ?_)
  rw [ho]
  exact br_t (by decide) (br_t (by decide) (nm_r (sp_1 C h2) ⟨rfl, p⟩))
theorem xx_s13 {post : Int32 → SX → Prop} {t : Nat} (C : mc_ok nm S iz le op ar rs wd ytg tg cls) (h1 : cls (t / 16) ≠ none) (h2 : t % 16 < le (t / 16)) (ho : op t = 13) (p1 : pt = sp_x bb cls le (pd_ct op ar tg t) → post 1 (nI mm, nI ms, nI mc, nI nm, nI M, nI S, lk, es, lc, iz, rn, bI bb, 1, pt, sp_x bb cls le (some (t + 1)), de, oc, bA me, dn, sn, wn, df, nA ow, nA le, nA op, ar, bA wk, ld, rs, lq, il, pn, lo, rf, po, wd, st, ou, va)) (p0 : ¬ pt = sp_x bb cls le (pd_ct op ar tg t) → post 1 (nI mm, nI ms, nI mc, nI nm, nI M, nI S, lk, es, lc, iz, rn, bI bb, 0, pt, sp_x bb cls le (some (t + 1)), de, oc, bA me, dn, sn, wn, df, nA ow, nA le, nA op, ar, bA wk, ld, rs, lq, il, pn, lo, rf, po, wd, st, ou, va)) : wpX_step post (nI mm, nI ms, nI mc, nI nm, nI M, nI S, lk, es, lc, iz, rn, bI bb, ac, pt, sp_x bb cls le (some t), de, oc, bA me, dn, sn, wn, df, nA ow, nA le, nA op, ar, bA wk, ld, rs, lq, il, pn, lo, rf, po, wd, st, ou, va) := by
  unfold wpX_step
  refine xx_opC C h1 h2 ?_
  refine br_t (by rw [ho]; decide) (xx_tgh C h1 h2 (by omega) ?_)
  rw [ho]
  exact br_t (by decide) (br_f (by decide) (br_t (by decide) (br_c (fun h => nm_r (sp_1 C h2) ⟨rfl, p1 h⟩) (fun h => nm_r (sp_1 C h2) ⟨rfl, p0 h⟩))))
/-- LOAD and STORE of a spot that holds no data -/
theorem xx_sD0 {post : Int32 → SX → Prop} {t : Nat} (C : mc_ok nm S iz le op ar rs wd ytg tg cls) (h1 : cls (t / 16) ≠ none) (h2 : t % 16 < le (t / 16)) (ho : op t = 10 ∨ op t = 11) (hd : ∀ u, pd_ct op ar tg t = some u → u % 16 < le (u / 16) → op u ≠ 1) (p : post 0 (nI mm, nI ms, nI mc, nI nm, nI M, nI S, lk, es, lc, iz, rn, bI bb, ac, pt, sp_x bb cls le (some t), de, oc, bA me, dn, sn, wn, df, nA ow, nA le, nA op, ar, bA wk, ld, rs, lq, il, pn, lo, rf, po, wd, st, ou, va)) : wpX_step post (nI mm, nI ms, nI mc, nI nm, nI M, nI S, lk, es, lc, iz, rn, bI bb, ac, pt, sp_x bb cls le (some t), de, oc, bA me, dn, sn, wn, df, nA ow, nA le, nA op, ar, bA wk, ld, rs, lq, il, pn, lo, rf, po, wd, st, ou, va) := by
  have ok := mc_ct C h1 h2
  unfold wpX_step
  refine xx_opC C h1 h2 ?_
  refine br_t (by rw [li_el7 (by omega)]; omega) (xx_tgh C h1 h2 (by omega) ?_)
  refine br_t (by rw [li_el10 (by omega)]; omega) (br_f (by rw [li_eq12 (by omega)]; omega) (br_f (by rw [li_eq13 (by omega)]; omega) ?_))
  by_cases hc : ∃ u, pd_ct op ar tg t = some u ∧ u % 16 < le (u / 16)
  · obtain ⟨u, u1, u2⟩ := hc
    rw [u1]
    have := hd u u1 u2
    have o13 := C.2.2.1.2.2.1 u
    refine xx_opC C (ok u u1).1 u2 ?_
    exact br_f (by rw [li_eq1 (by omega)]; exact this) ⟨rfl, p⟩
  · refine xx_opN C ok (fun u hu hl => hc ⟨u, hu, hl⟩) ?_
    exact br_f (by decide) ⟨rfl, p⟩
theorem xx_s10 {post : Int32 → SX → Prop} {t u : Nat} (C : mc_ok nm S iz le op ar rs wd ytg tg cls) (h1 : cls (t / 16) ≠ none) (h2 : t % 16 < le (t / 16)) (ho : op t = 10) (hu : pd_ct op ar tg t = some u) (hl : u % 16 < le (u / 16)) (hd : op u = 1) (p : post 1 (nI mm, nI ms, nI mc, nI nm, nI M, nI S, lk, es, lc, iz, rn, bI bb, va (sp_i bb cls le u), pt, sp_x bb cls le (some (t + 1)), de, oc, bA me, dn, sn, wn, df, nA ow, nA le, nA op, ar, bA wk, ld, rs, lq, il, pn, lo, rf, po, wd, st, ou, va)) : wpX_step post (nI mm, nI ms, nI mc, nI nm, nI M, nI S, lk, es, lc, iz, rn, bI bb, ac, pt, sp_x bb cls le (some t), de, oc, bA me, dn, sn, wn, df, nA ow, nA le, nA op, ar, bA wk, ld, rs, lq, il, pn, lo, rf, po, wd, st, ou, va) := by
  have ok := mc_ct C h1 h2
  have il := sp_il (bb := bb) C (u := u) (by rw [← hu]; exact ok)
  unfold wpX_step
  refine xx_opC C h1 h2 ?_
  refine br_t (by rw [ho]; decide) (xx_tgh C h1 h2 (by omega) ?_)
  rw [ho]
  refine br_t (by decide) (br_f (by decide) (br_f (by decide) ?_))
  rw [hu]
  refine xx_opC C (ok u hu).1 hl ?_
  rw [hd]
  refine br_t (by decide) (br_t (by decide) ?_)
  rw [sp_xi bb cls le u]
  exact ⟨vp_in_nI il (by decide), nm_r (e' := va (sp_i bb cls le u)) (by rw [nI_clamp (by omega)]) (nm_r (sp_1 C h2) ⟨rfl, p⟩)⟩
theorem xx_s11 {post : Int32 → SX → Prop} {t u : Nat} (C : mc_ok nm S iz le op ar rs wd ytg tg cls) (h1 : cls (t / 16) ≠ none) (h2 : t % 16 < le (t / 16)) (ho : op t = 11) (hu : pd_ct op ar tg t = some u) (hl : u % 16 < le (u / 16)) (hd : op u = 1) (p : post 1 (nI mm, nI ms, nI mc, nI nm, nI M, nI S, lk, es, lc, iz, rn, bI bb, ac, pt, sp_x bb cls le (some (t + 1)), de, oc, bA me, dn, sn, wn, df, nA ow, nA le, nA op, ar, bA wk, ld, rs, lq, il, pn, lo, rf, po, wd, st, ou, upd va (sp_i bb cls le u) ac)) : wpX_step post (nI mm, nI ms, nI mc, nI nm, nI M, nI S, lk, es, lc, iz, rn, bI bb, ac, pt, sp_x bb cls le (some t), de, oc, bA me, dn, sn, wn, df, nA ow, nA le, nA op, ar, bA wk, ld, rs, lq, il, pn, lo, rf, po, wd, st, ou, va) := by
  have ok := mc_ct C h1 h2
  have il := sp_il (bb := bb) C (u := u) (by rw [← hu]; exact ok)
  unfold wpX_step
  refine xx_opC C h1 h2 ?_
  refine br_t (by rw [ho]; decide) (xx_tgh C h1 h2 (by omega) ?_)
  rw [ho]
  refine br_t (by decide) (br_f (by decide) (br_f (by decide) ?_))
  rw [hu]
  refine xx_opC C (ok u hu).1 hl ?_
  rw [hd]
  refine br_t (by decide) (br_f (by decide) ?_)
  rw [sp_xi bb cls le u]
  exact ⟨vp_in_nI il (by decide), nm_r (e' := upd va (sp_i bb cls le u) ac) (by rw [nI_clamp (by omega)]) (nm_r (sp_1 C h2) ⟨rfl, p⟩)⟩
end
end
section
/-! one step of Y, by its opcode -/
section
variable {mm ms mc nm M S F : Nat} {lk sa rn yb ac yac ypt yde yoc ypc : Int32} {me wk ft : Nat → Bool} {ow le op fm fn fs : Nat → Nat} {ar vl yld ytg ylv yfd yst ou : Nat → Int32} {rs : Nat → Int32} {iz : Int32} {wd : Nat → Int64} {bb : Bool} {xo yo : Option Nat} {dd qq : Nat} {tg cls : Nat → Option Nat}
theorem yy_302 {post : Int32 → SY → Prop} {x1 x3 x4 : Int32} (h5 : ¬ x1 = 5) (h6 : ¬ x1 = 6) (h7 : ¬ x1 = 7) (h8 : ¬ x1 = 8) (h9 : ¬ x1 = 9) (p : post 1 (nI mm, nI ms, nI mc, nI nm, nI M, nI S, nI F, lk, sa, rn, yb, yac, ypt, yde, yoc, x4, bA me, nA ow, nA le, nA op, ar, bA wk, vl, nA fm, nA fn, nA fs, bA ft, yld, ytg, ylv, yfd, yst, ou)) : wY_step_302 post x1 x3 x4 (nI mm) (nI ms) (nI mc) (nI nm) (nI M) (nI S) (nI F) lk sa rn yb yac ypt yde yoc ypc (bA me) (nA ow) (nA le) (nA op) ar (bA wk) vl (nA fm) (nA fn) (nA fs) (bA ft) yld ytg ylv yfd yst ou := by
  unfold wY_step_302
  refine br_f h5 ?_
  unfold wY_step_336
  refine br_f h6 ?_
  unfold wY_step_350
  exact br_f h7 (br_f h8 (br_f h9 p))
theorem yy_236 {post : Int32 → SY → Prop} {x1 x3 x4 : Int32} (h10 : ¬ x1 = 10) (h11 : ¬ x1 = 11) (h12 : ¬ x1 = 12) (h13 : ¬ x1 = 13) (p : wY_step_302 post x1 x3 x4 (nI mm) (nI ms) (nI mc) (nI nm) (nI M) (nI S) (nI F) lk sa rn yb yac ypt yde yoc ypc (bA me) (nA ow) (nA le) (nA op) ar (bA wk) vl (nA fm) (nA fn) (nA fs) (bA ft) yld ytg ylv yfd yst ou) : wY_step_236 post x1 x3 x4 (nI mm) (nI ms) (nI mc) (nI nm) (nI M) (nI S) (nI F) lk sa rn yb yac ypt yde yoc ypc (bA me) (nA ow) (nA le) (nA op) ar (bA wk) vl (nA fm) (nA fn) (nA fs) (bA ft) yld ytg ylv yfd yst ou := by
  unfold wY_step_236
  refine br_f h10 ?_
  unfold wY_step_252
  refine br_f h11 ?_
  unfold wY_step_268
  refine br_f h12 ?_
  unfold wY_step_279
  exact br_f h13 p
theorem yy_203 {post : Int32 → SY → Prop} {x1 x3 x4 : Int32} (h6 : ¬ x1 = 6) (h7 : ¬ x1 = 7) (p : wY_step_236 post x1 x3 x4 (nI mm) (nI ms) (nI mc) (nI nm) (nI M) (nI S) (nI F) lk sa rn yb yac ypt yde yoc ypc (bA me) (nA ow) (nA le) (nA op) ar (bA wk) vl (nA fm) (nA fn) (nA fs) (bA ft) yld ytg ylv yfd yst ou) : wY_step_203 post x1 x3 x4 (nI mm) (nI ms) (nI mc) (nI nm) (nI M) (nI S) (nI F) lk sa rn yb yac ypt yde yoc ypc (bA me) (nA ow) (nA le) (nA op) ar (bA wk) vl (nA fm) (nA fn) (nA fs) (bA ft) yld ytg ylv yfd yst ou := by
  unfold wY_step_203
  exact br_f h6 (br_f h7 p)
theorem yy_150 {post : Int32 → SY → Prop} {x1 x2 x3 x4 : Int32} (h2 : ¬ x1 = 2) (h3 : ¬ x1 = 3) (h4 : ¬ x1 = 4) (p : wY_step_203 post x1 x3 x4 (nI mm) (nI ms) (nI mc) (nI nm) (nI M) (nI S) (nI F) lk sa rn yb yac ypt yde yoc ypc (bA me) (nA ow) (nA le) (nA op) ar (bA wk) vl (nA fm) (nA fn) (nA fs) (bA ft) yld ytg ylv yfd yst ou) : wY_step_150 post x1 x2 x3 x4 (nI mm) (nI ms) (nI mc) (nI nm) (nI M) (nI S) (nI F) lk sa rn yb yac ypt yde yoc ypc (bA me) (nA ow) (nA le) (nA op) ar (bA wk) vl (nA fm) (nA fn) (nA fs) (bA ft) yld ytg ylv yfd yst ou := by
  unfold wY_step_150
  refine br_f h2 ?_
  unfold wY_step_160
  refine br_f h3 ?_
  unfold wY_step_175
  exact br_f h4 p
theorem yy_95 {post : Int32 → SY → Prop} {x1 x2 x3 x4 : Int32} (h6 : ¬ x1 = 6) (h7 : ¬ x1 = 7) (p : wY_step_118 post x1 x2 x3 x4 (nI mm) (nI ms) (nI mc) (nI nm) (nI M) (nI S) (nI F) lk sa rn yb yac ypt yde yoc ypc (bA me) (nA ow) (nA le) (nA op) ar (bA wk) vl (nA fm) (nA fn) (nA fs) (bA ft) yld ytg ylv yfd yst ou) : wY_step_95 post x1 x2 x3 x4 (nI mm) (nI ms) (nI mc) (nI nm) (nI M) (nI S) (nI F) lk sa rn yb yac ypt yde yoc ypc (bA me) (nA ow) (nA le) (nA op) ar (bA wk) vl (nA fm) (nA fn) (nA fs) (bA ft) yld ytg ylv yfd yst ou := by
  unfold wY_step_95
  exact br_f h6 (br_f h7 p)
theorem yy_118 {post : Int32 → SY → Prop} {x1 x2 x3 x4 : Int32} (h10 : ¬ x1 = 10) (h11 : ¬ x1 = 11) (p : wY_step_150 post x1 x2 x3 x4 (nI mm) (nI ms) (nI mc) (nI nm) (nI M) (nI S) (nI F) lk sa rn yb yac ypt yde yoc ypc (bA me) (nA ow) (nA le) (nA op) ar (bA wk) vl (nA fm) (nA fn) (nA fs) (bA ft) yld ytg ylv yfd yst ou) : wY_step_118 post x1 x2 x3 x4 (nI mm) (nI ms) (nI mc) (nI nm) (nI M) (nI S) (nI F) lk sa rn yb yac ypt yde yoc ypc (bA me) (nA ow) (nA le) (nA op) ar (bA wk) vl (nA fm) (nA fn) (nA fs) (bA ft) yld ytg ylv yfd yst ou := by
  unfold wY_step_118
  exact br_f h10 (br_f h11 p)
theorem yy_81 {post : Int32 → SY → Prop} {x1 x2 x3 x4 : Int32} (h5 : ¬ x1 = 5) (p : wY_step_95 post x1 x2 x3 x4 (nI mm) (nI ms) (nI mc) (nI nm) (nI M) (nI S) (nI F) lk sa rn yb yac ypt yde yoc ypc (bA me) (nA ow) (nA le) (nA op) ar (bA wk) vl (nA fm) (nA fn) (nA fs) (bA ft) yld ytg ylv yfd yst ou) : wY_step_81 post x1 x2 x3 x4 (nI mm) (nI ms) (nI mc) (nI nm) (nI M) (nI S) (nI F) lk sa rn yb yac ypt yde yoc ypc (bA me) (nA ow) (nA le) (nA op) ar (bA wk) vl (nA fm) (nA fn) (nA fs) (bA ft) yld ytg ylv yfd yst ou := by
  unfold wY_step_81
  exact br_f h5 p
theorem yy_sN {post : Int32 → SY → Prop} (C : mc_ok nm S iz le op ar rs wd ytg tg cls) (h : sp_ok cls le xo) (hn : ∀ t, xo = some t → ¬ t % 16 < le (t / 16)) (p : post 0 (nI mm, nI ms, nI mc, nI nm, nI M, nI S, nI F, lk, sa, rn, yb, yac, ypt, yde, yoc, oI xo, bA me, nA ow, nA le, nA op, ar, bA wk, vl, nA fm, nA fn, nA fs, bA ft, yld, ytg, ylv, yfd, yst, ou)) : wpY_step post (nI mm, nI ms, nI mc, nI nm, nI M, nI S, nI F, lk, sa, rn, yb, yac, ypt, yde, yoc, oI xo, bA me, nA ow, nA le, nA op, ar, bA wk, vl, nA fm, nA fn, nA fs, bA ft, yld, ytg, ylv, yfd, yst, ou) := by
  unfold wpY_step
  cases xo with
  | none => exact yy_cellN (br_t rfl p)
  | some t =>
    have := mc_S C (h t rfl).1
    have := C.1
    exact yy_cell C.2.2.1.1 (by omega) (fun z => absurd z (hn t rfl)) (fun _ => br_t rfl p)
theorem yy_st {post : Int32 → SY → Prop} {t : Nat} (C : mc_ok nm S iz le op ar rs wd ytg tg cls) (h1 : cls (t / 16) ≠ none) (h2 : t % 16 < le (t / 16)) (p : wY_step_49 post (nI (op t)) (ar t) (oI (pd_ct op ar tg t)) (nI mm) (nI ms) (nI mc) (nI nm) (nI M) (nI S) (nI F) lk sa rn yb yac ypt yde yoc (nI t) (bA me) (nA ow) (nA le) (nA op) ar (bA wk) vl (nA fm) (nA fn) (nA fs) (bA ft) yld ytg ylv yfd yst ou) : wpY_step post (nI mm, nI ms, nI mc, nI nm, nI M, nI S, nI F, lk, sa, rn, yb, yac, ypt, yde, yoc, nI t, bA me, nA ow, nA le, nA op, ar, bA wk, vl, nA fm, nA fn, nA fs, bA ft, yld, ytg, ylv, yfd, yst, ou) := by
  have hS := mc_S C h1
  have h12 := C.1
  have o13 := C.2.2.1.2.2.1 t
  have hin : vp_in (nI t) 192 := vp_in_nI (by omega) (by omega)
  have c0 := nI_clamp (n := t) (by omega)
  unfold wpY_step
  refine yy_cell C.2.2.1.1 (by omega) (fun _ => ?_) (fun z => absurd h2 z)
  refine br_f (by decide) ⟨hin, nm_r (e' := nI (op t)) (by rw [c0]; rfl) ⟨hin, nm_r (e' := ar t) (by rw [c0]) ?_⟩⟩
  by_cases h7 : op t < 7
  · rw [pd_ctp h7] at p
    exact br_t (by rw [li_lt7 (by omega)]; exact h7) p
  · obtain ⟨n, hn, ha⟩ := C.2.2.1.2.2.2 t (by omega)
    have hnm := C.2.1
    have e7 : pd_ct op ar tg t = tg n := pd_ctr (by omega) ha (by omega)
    refine br_f (by rw [li_lt7 (by omega)]; exact h7) ⟨by rw [ha]; exact vp_in_nI (by omega) (by omega), ?_⟩
    have e8 : ytg (ar t).toNatClampNeg = oI (pd_ct op ar tg t) := by rw [ha, nI_clamp (by omega), C.2.2.2.2.1 n hn, e7]
    rw [e8]
    exact p
theorem yy_s01 {post : Int32 → SY → Prop} {t : Nat} (C : mc_ok nm S iz le op ar rs wd ytg tg cls) (h1 : cls (t / 16) ≠ none) (h2 : t % 16 < le (t / 16)) (ho : op t ≤ 1) (p : post 0 (nI mm, nI ms, nI mc, nI nm, nI M, nI S, nI F, lk, sa, rn, yb, yac, ypt, yde, yoc, nI t, bA me, nA ow, nA le, nA op, ar, bA wk, vl, nA fm, nA fn, nA fs, bA ft, yld, ytg, ylv, yfd, yst, ou)) : wpY_step post (nI mm, nI ms, nI mc, nI nm, nI M, nI S, nI F, lk, sa, rn, yb, yac, ypt, yde, yoc, nI t, bA me, nA ow, nA le, nA op, ar, bA wk, vl, nA fm, nA fn, nA fs, bA ft, yld, ytg, ylv, yfd, yst, ou) := by
  refine yy_st C h1 h2 ?_
  exact nm_e (br_f (by rw [li_tl1 (by omega)]; omega) p)
theorem yy_s2 {post : Int32 → SY → Prop} {t : Nat} (C : mc_ok nm S iz le op ar rs wd ytg tg cls) (h1 : cls (t / 16) ≠ none) (h2 : t % 16 < le (t / 16)) (ho : op t = 2) (p : post 1 (nI mm, nI ms, nI mc, nI nm, nI M, nI S, nI F, lk, sa, rn, yb, ar t, ypt, yde, yoc, nI (t + 1), bA me, nA ow, nA le, nA op, ar, bA wk, vl, nA fm, nA fn, nA fs, bA ft, yld, ytg, ylv, yfd, yst, ou)) : wpY_step post (nI mm, nI ms, nI mc, nI nm, nI M, nI S, nI F, lk, sa, rn, yb, yac, ypt, yde, yoc, nI t, bA me, nA ow, nA le, nA op, ar, bA wk, vl, nA fm, nA fn, nA fs, bA ft, yld, ytg, ylv, yfd, yst, ou) := by
  refine yy_st C h1 h2 ?_
  rw [ho]
  refine nm_r (nI_1 t) (br_t (by decide) (br_f (by decide) ?_))
  refine yy_81 (by decide) (yy_95 (by decide) (by decide) (yy_118 (by decide) (by decide) ?_))
  unfold wY_step_150
  refine br_t (by decide) ?_
  unfold wY_step_160
  refine br_f (by decide) ?_
  unfold wY_step_175
  refine br_f (by decide) ?_
  exact yy_203 (by decide) (by decide) (yy_236 (by decide) (by decide) (by decide) (by decide) (yy_302 (by decide) (by decide) (by decide) (by decide) (by decide) p))
theorem yy_s3 {post : Int32 → SY → Prop} {t : Nat} (C : mc_ok nm S iz le op ar rs wd ytg tg cls) (h1 : cls (t / 16) ≠ none) (h2 : t % 16 < le (t / 16)) (ho : op t = 3) (p : post 1 (nI mm, nI ms, nI mc, nI nm, nI M, nI S, nI F, lk, sa, rn, yb, yac + ar t, ypt, yde, yoc, nI (t + 1), bA me, nA ow, nA le, nA op, ar, bA wk, vl, nA fm, nA fn, nA fs, bA ft, yld, ytg, ylv, yfd, yst, ou)) : wpY_step post (nI mm, nI ms, nI mc, nI nm, nI M, nI S, nI F, lk, sa, rn, yb, yac, ypt, yde, yoc, nI t, bA me, nA ow, nA le, nA op, ar, bA wk, vl, nA fm, nA fn, nA fs, bA ft, yld, ytg, ylv, yfd, yst, ou) := by
  refine yy_st C h1 h2 ?_
  rw [ho]
  refine nm_r (nI_1 t) (br_t (by decide) (br_f (by decide) ?_))
  refine yy_81 (by decide) (yy_95 (by decide) (by decide) (yy_118 (by decide) (by decide) ?_))
  unfold wY_step_150
  refine br_f (by decide) ?_
  unfold wY_step_160
  refine br_t (by decide) (nm_e ?_)
  unfold wY_step_175
  refine br_f (by decide) ?_
  exact yy_203 (by decide) (by decide) (yy_236 (by decide) (by decide) (by decide) (by decide) (yy_302 (by decide) (by decide) (by decide) (by decide) (by decide) p))
theorem yy_s4 {post : Int32 → SY → Prop} {t : Nat} (C : mc_ok nm S iz le op ar rs wd ytg tg cls) (h1 : cls (t / 16) ≠ none) (h2 : t % 16 < le (t / 16)) (ho : op t = 4) (hq : qq ≤ 16) (p0 : ¬ qq < 16 → post 0 (nI mm, nI ms, nI mc, nI nm, nI M, nI S, nI F, lk, sa, rn, yb, yac, ypt, yde, nI qq, nI t, bA me, nA ow, nA le, nA op, ar, bA wk, vl, nA fm, nA fn, nA fs, bA ft, yld, ytg, ylv, yfd, yst, ou)) (p : qq < 16 → post 1 (nI mm, nI ms, nI mc, nI nm, nI M, nI S, nI F, lk, sa, rn, yb, yac, ypt, yde, nI (qq + 1), nI (t + 1), bA me, nA ow, nA le, nA op, ar, bA wk, vl, nA fm, nA fn, nA fs, bA ft, yld, ytg, ylv, yfd, yst, upd ou qq yac)) : wpY_step post (nI mm, nI ms, nI mc, nI nm, nI M, nI S, nI F, lk, sa, rn, yb, yac, ypt, yde, nI qq, nI t, bA me, nA ow, nA le, nA op, ar, bA wk, vl, nA fm, nA fn, nA fs, bA ft, yld, ytg, ylv, yfd, yst, ou) := by
  refine yy_st C h1 h2 ?_
  rw [ho]
  refine nm_r (nI_1 t) (br_t (by decide) (br_t (by decide) ?_))
  by_cases h : qq < 16
  · refine br_t (nI_lt (b := 16) h (by decide)) ?_
    refine yy_81 (by decide) (yy_95 (by decide) (by decide) (yy_118 (by decide) (by decide) ?_))
    unfold wY_step_150
    refine br_f (by decide) ?_
    unfold wY_step_160
    refine br_f (by decide) ?_
    unfold wY_step_175
    refine br_t (by decide) ⟨vp_in_nI h (by decide), nm_r (e' := upd ou qq yac) (by rw [nI_clamp (by omega)]) (nm_r (nI_1 qq) ?_)⟩
    exact yy_203 (by decide) (by decide) (yy_236 (by decide) (by decide) (by decide) (by decide) (yy_302 (by decide) (by decide) (by decide) (by decide) (by decide) (p h)))
  · exact br_f (nI_nlt (b := 16) (by omega) (by omega)) (p0 h)
theorem yy_s5 {post : Int32 → SY → Prop} {t : Nat} (C : mc_ok nm S iz le op ar rs wd ytg tg cls) (h1 : cls (t / 16) ≠ none) (h2 : t % 16 < le (t / 16)) (ho : op t = 5) (hq : dd ≤ 8) (p0 : dd = 0 → post 0 (nI mm, nI ms, nI mc, nI nm, nI M, nI S, nI F, lk, sa, rn, yb, yac, ypt, nI dd, yoc, nI t, bA me, nA ow, nA le, nA op, ar, bA wk, vl, nA fm, nA fn, nA fs, bA ft, yld, ytg, ylv, yfd, yst, ou)) (p : 1 ≤ dd → post 1 (nI mm, nI ms, nI mc, nI nm, nI M, nI S, nI F, lk, sa, rn, yb, yac, ypt, nI (dd - 1), yoc, yst (dd - 1), bA me, nA ow, nA le, nA op, ar, bA wk, vl, nA fm, nA fn, nA fs, bA ft, yld, ytg, ylv, yfd, yst, ou)) : wpY_step post (nI mm, nI ms, nI mc, nI nm, nI M, nI S, nI F, lk, sa, rn, yb, yac, ypt, nI dd, yoc, nI t, bA me, nA ow, nA le, nA op, ar, bA wk, vl, nA fm, nA fn, nA fs, bA ft, yld, ytg, ylv, yfd, yst, ou) := by
  refine yy_st C h1 h2 ?_
  rw [ho]
  refine nm_r (nI_1 t) (br_t (by decide) (br_f (by decide) ?_))
  unfold wY_step_81
  refine br_t (by decide) ?_
  by_cases h : dd = 0
  · exact br_f (by rw [li_tl0 (by omega)]; omega) (p0 h)
  · refine br_t (by rw [li_tl0 (by omega)]; omega) ?_
    refine yy_95 (by decide) (by decide) (yy_118 (by decide) (by decide) (yy_150 (by decide) (by decide) (by decide) (yy_203 (by decide) (by decide) (yy_236 (by decide) (by decide) (by decide) (by decide) ?_))))
    unfold wY_step_302
    refine br_t (by decide) (nm_r (li_sb (by omega)) ⟨vp_in_nI (by omega) (by decide), nm_r (e' := yst (dd - 1)) (by rw [nI_clamp (by omega)]) ?_⟩)
    unfold wY_step_336
    refine br_f (by decide) ?_
    unfold wY_step_350
    exact br_f (by decide) (br_f (by decide) (br_f (by decide) (p (by omega))))
theorem yy_s6 {post : Int32 → SY → Prop} {t : Nat} (C : mc_ok nm S iz le op ar rs wd ytg tg cls) (h1 : cls (t / 16) ≠ none) (h2 : t % 16 < le (t / 16)) (ho : op t = 6) (hq : dd ≤ 8) (p0 : ¬ dd < 8 → post 0 (nI mm, nI ms, nI mc, nI nm, nI M, nI S, nI F, lk, sa, rn, yb, yac, ypt, nI dd, yoc, nI t, bA me, nA ow, nA le, nA op, ar, bA wk, vl, nA fm, nA fn, nA fs, bA ft, yld, ytg, ylv, yfd, yst, ou)) (p : dd < 8 → post 1 (nI mm, nI ms, nI mc, nI nm, nI M, nI S, nI F, lk, sa, rn, yb, yac, ypt, nI (dd + 1), yoc, ypt, bA me, nA ow, nA le, nA op, ar, bA wk, vl, nA fm, nA fn, nA fs, bA ft, yld, ytg, ylv, yfd, upd yst dd (nI (t + 1)), ou)) : wpY_step post (nI mm, nI ms, nI mc, nI nm, nI M, nI S, nI F, lk, sa, rn, yb, yac, ypt, nI dd, yoc, nI t, bA me, nA ow, nA le, nA op, ar, bA wk, vl, nA fm, nA fn, nA fs, bA ft, yld, ytg, ylv, yfd, yst, ou) := by
  refine yy_st C h1 h2 ?_
  rw [ho]
  refine nm_r (nI_1 t) (br_t (by decide) (br_f (by decide) ?_))
  refine yy_81 (by decide) ?_
  unfold wY_step_95
  refine br_t (by decide) ?_
  unfold wY_step_107
  by_cases h : dd < 8
  · refine br_t (nI_lt (b := 8) h (by decide)) (yy_118 (by decide) (by decide) (yy_150 (by decide) (by decide) (by decide) ?_))
    unfold wY_step_203
    refine br_t (by decide) ?_
    unfold wY_step_215
    refine ⟨vp_in_nI h (by decide), nm_r (e' := upd yst dd (nI (t + 1))) (by rw [nI_clamp (by omega)]) (nm_r (nI_1 dd) ?_)⟩
    refine yy_236 (by decide) (by decide) (by decide) (by decide) ?_
    unfold wY_step_302
    refine br_f (by decide) ?_
    unfold wY_step_336
    refine br_t (by decide) ?_
    unfold wY_step_350
    exact br_f (by decide) (br_f (by decide) (br_f (by decide) (p h)))
  · exact br_f (nI_nlt (b := 8) (by omega) (by omega)) (p0 h)
theorem yy_s7 {post : Int32 → SY → Prop} {t : Nat} (C : mc_ok nm S iz le op ar rs wd ytg tg cls) (h1 : cls (t / 16) ≠ none) (h2 : t % 16 < le (t / 16)) (ho : op t = 7) (hq : dd ≤ 8) (p0 : ¬ dd < 8 → post 0 (nI mm, nI ms, nI mc, nI nm, nI M, nI S, nI F, lk, sa, rn, yb, yac, ypt, nI dd, yoc, nI t, bA me, nA ow, nA le, nA op, ar, bA wk, vl, nA fm, nA fn, nA fs, bA ft, yld, ytg, ylv, yfd, yst, ou)) (p : dd < 8 → post 1 (nI mm, nI ms, nI mc, nI nm, nI M, nI S, nI F, lk, sa, rn, yb, yac, ypt, nI (dd + 1), yoc, oI (pd_ct op ar tg t), bA me, nA ow, nA le, nA op, ar, bA wk, vl, nA fm, nA fn, nA fs, bA ft, yld, ytg, ylv, yfd, upd yst dd (nI (t + 1)), ou)) : wpY_step post (nI mm, nI ms, nI mc, nI nm, nI M, nI S, nI F, lk, sa, rn, yb, yac, ypt, nI dd, yoc, nI t, bA me, nA ow, nA le, nA op, ar, bA wk, vl, nA fm, nA fn, nA fs, bA ft, yld, ytg, ylv, yfd, yst, ou) := by
  refine yy_st C h1 h2 ?_
  rw [ho]
  refine nm_r (nI_1 t) (br_t (by decide) (br_f (by decide) ?_))
  refine yy_81 (by decide) ?_
  unfold wY_step_95
  refine br_f (by decide) (br_t (by decide) ?_)
  unfold wY_step_107
  by_cases h : dd < 8
  · refine br_t (nI_lt (b := 8) h (by decide)) (yy_118 (by decide) (by decide) (yy_150 (by decide) (by decide) (by decide) ?_))
    unfold wY_step_203
    refine br_f (by decide) (br_t (by decide) ?_)
    unfold wY_step_215
    refine ⟨vp_in_nI h (by decide), nm_r (e' := upd yst dd (nI (t + 1))) (by rw [nI_clamp (by omega)]) (nm_r (nI_1 dd) ?_)⟩
    refine yy_236 (by decide) (by decide) (by decide) (by decide) ?_
    unfold wY_step_302
    refine br_f (by decide) ?_
    unfold wY_step_336
    refine br_f (by decide) ?_
    unfold wY_step_350
    exact br_t (by decide) (p h)
  · exact br_f (nI_nlt (b := 8) (by omega) (by omega)) (p0 h)
theorem yy_s8 {post : Int32 → SY → Prop} {t : Nat} (C : mc_ok nm S iz le op ar rs wd ytg tg cls) (h1 : cls (t / 16) ≠ none) (h2 : t % 16 < le (t / 16)) (ho : op t = 8) (p : post 1 (nI mm, nI ms, nI mc, nI nm, nI M, nI S, nI F, lk, sa, rn, yb, yac, ypt, yde, yoc, oI (pd_ct op ar tg t), bA me, nA ow, nA le, nA op, ar, bA wk, vl, nA fm, nA fn, nA fs, bA ft, yld, ytg, ylv, yfd, yst, ou)) : wpY_step post (nI mm, nI ms, nI mc, nI nm, nI M, nI S, nI F, lk, sa, rn, yb, yac, ypt, yde, yoc, nI t, bA me, nA ow, nA le, nA op, ar, bA wk, vl, nA fm, nA fn, nA fs, bA ft, yld, ytg, ylv, yfd, yst, ou) := by
  refine yy_st C h1 h2 ?_
  rw [ho]
  refine nm_r (nI_1 t) (br_t (by decide) (br_f (by decide) ?_))
  refine yy_81 (by decide) (yy_95 (by decide) (by decide) (yy_118 (by decide) (by decide) (yy_150 (by decide) (by decide) (by decide) (yy_203 (by decide) (by decide) (yy_236 (by decide) (by decide) (by decide) (by decide) ?_)))))
  unfold wY_step_302
  refine br_f (by decide) ?_
  unfold wY_step_336
  refine br_f (by decide) ?_
  unfold wY_step_350
  exact br_f (by decide) (br_t (by decide) p)
theorem yy_s9 {post : Int32 → SY → Prop} {t : Nat} (C : mc_ok nm S iz le op ar rs wd ytg tg cls) (h1 : cls (t / 16) ≠ none) (h2 : t % 16 < le (t / 16)) (ho : op t = 9) (p0 : yac = 0 → post 1 (nI mm, nI ms, nI mc, nI nm, nI M, nI S, nI F, lk, sa, rn, yb, yac, ypt, yde, yoc, oI (pd_ct op ar tg t), bA me, nA ow, nA le, nA op, ar, bA wk, vl, nA fm, nA fn, nA fs, bA ft, yld, ytg, ylv, yfd, yst, ou)) (p : ¬ yac = 0 → post 1 (nI mm, nI ms, nI mc, nI nm, nI M, nI S, nI F, lk, sa, rn, yb, yac, ypt, yde, yoc, nI (t + 1), bA me, nA ow, nA le, nA op, ar, bA wk, vl, nA fm, nA fn, nA fs, bA ft, yld, ytg, ylv, yfd, yst, ou)) : wpY_step post (nI mm, nI ms, nI mc, nI nm, nI M, nI S, nI F, lk, sa, rn, yb, yac, ypt, yde, yoc, nI t, bA me, nA ow, nA le, nA op, ar, bA wk, vl, nA fm, nA fn, nA fs, bA ft, yld, ytg, ylv, yfd, yst, ou) := by
  refine yy_st C h1 h2 ?_
  rw [ho]
  refine nm_r (nI_1 t) (br_t (by decide) (br_f (by decide) ?_))
  refine yy_81 (by decide) (yy_95 (by decide) (by decide) (yy_118 (by decide) (by decide) (yy_150 (by decide) (by decide) (by decide) (yy_203 (by decide) (by decide) (yy_236 (by decide) (by decide) (by decide) (by decide) ?_)))))
  unfold wY_step_302
  refine br_f (by decide) ?_
  unfold wY_step_336
  refine br_f (by decide) ?_
  unfold wY_step_350
  exact br_f (by decide) (br_f (by decide) (br_t (by decide) (br_c p0 p)))
theorem yy_s12 {post : Int32 → SY → Prop} {t : Nat} (C : mc_ok nm S iz le op ar rs wd ytg tg cls) (h1 : cls (t / 16) ≠ none) (h2 : t % 16 < le (t / 16)) (ho : op t = 12) (p : post 1 (nI mm, nI ms, nI mc, nI nm, nI M, nI S, nI F, lk, sa, rn, yb, yac, oI (pd_ct op ar tg t), yde, yoc, nI (t + 1), bA me, nA ow, nA le, nA op, ar, bA wk, vl, nA fm, nA fn, nA fs, bA ft, yld, ytg, ylv, yfd, yst, ou)) : wpY_step post (nI mm, nI ms, nI mc, nI nm, nI M, nI S, nI F, lk, sa, rn, yb, yac, ypt, yde, yoc, nI t, bA me, nA ow, nA le, nA op, ar, bA wk, vl, nA fm, nA fn, nA fs, bA ft, yld, ytg, ylv, yfd, yst, ou) := by
  refine yy_st C h1 h2 ?_
  rw [ho]
  refine nm_r (nI_1 t) (br_t (by decide) (br_f (by decide) ?_))
  refine yy_81 (by decide) (yy_95 (by decide) (by decide) (yy_118 (by decide) (by decide) (yy_150 (by decide) (by decide) (by decide) (yy_203 (by decide) (by decide) ?_))))
  unfold wY_step_236
  refine br_f (by decide) ?_
  unfold wY_step_252
  refine br_f (by decide) ?_
  unfold wY_step_268
  refine br_t (by decide) ?_
  unfold wY_step_279
  exact br_f (by decide) (yy_302 (by decide) (by decide) (by decide) (by decide) (by decide) p)
theorem yy_s13 {post : Int32 → SY → Prop} {t : Nat} (C : mc_ok nm S iz le op ar rs wd ytg tg cls) (h1 : cls (t / 16) ≠ none) (h2 : t % 16 < le (t / 16)) (ho : op t = 13) (p1 : ypt = oI (pd_ct op ar tg t) → post 1 (nI mm, nI ms, nI mc, nI nm, nI M, nI S, nI F, lk, sa, rn, yb, 1, ypt, yde, yoc, nI (t + 1), bA me, nA ow, nA le, nA op, ar, bA wk, vl, nA fm, nA fn, nA fs, bA ft, yld, ytg, ylv, yfd, yst, ou)) (p0 : ¬ ypt = oI (pd_ct op ar tg t) → post 1 (nI mm, nI ms, nI mc, nI nm, nI M, nI S, nI F, lk, sa, rn, yb, 0, ypt, yde, yoc, nI (t + 1), bA me, nA ow, nA le, nA op, ar, bA wk, vl, nA fm, nA fn, nA fs, bA ft, yld, ytg, ylv, yfd, yst, ou)) : wpY_step post (nI mm, nI ms, nI mc, nI nm, nI M, nI S, nI F, lk, sa, rn, yb, yac, ypt, yde, yoc, nI t, bA me, nA ow, nA le, nA op, ar, bA wk, vl, nA fm, nA fn, nA fs, bA ft, yld, ytg, ylv, yfd, yst, ou) := by
  refine yy_st C h1 h2 ?_
  rw [ho]
  refine nm_r (nI_1 t) (br_t (by decide) (br_f (by decide) ?_))
  refine yy_81 (by decide) (yy_95 (by decide) (by decide) (yy_118 (by decide) (by decide) (yy_150 (by decide) (by decide) (by decide) (yy_203 (by decide) (by decide) ?_))))
  unfold wY_step_236
  refine br_f (by decide) ?_
  unfold wY_step_252
  refine br_f (by decide) ?_
  unfold wY_step_268
  refine br_f (by decide) ?_
  unfold wY_step_279
  refine br_t (by decide) (br_c (fun h => ?_) (fun h => ?_))
  · unfold wY_step_299
    exact yy_302 (by decide) (by decide) (by decide) (by decide) (by decide) (p1 h)
  · unfold wY_step_299
    exact yy_302 (by decide) (by decide) (by decide) (by decide) (by decide) (p0 h)
theorem yy_130 {post : Int32 → SY → Prop} {x1 x2 x4 : Int32} {t : Nat} (C : mc_ok nm S iz le op ar rs wd ytg tg cls) (h1 : cls (t / 16) ≠ none) (h2 : t % 16 < le (t / 16)) (p0 : (∀ u, pd_ct op ar tg t = some u → u % 16 < le (u / 16) → op u ≠ 1) → post 0 (nI mm, nI ms, nI mc, nI nm, nI M, nI S, nI F, lk, sa, rn, yb, yac, ypt, yde, yoc, ypc, bA me, nA ow, nA le, nA op, ar, bA wk, vl, nA fm, nA fn, nA fs, bA ft, yld, ytg, ylv, yfd, yst, ou)) (p : ∀ u, pd_ct op ar tg t = some u → u % 16 < le (u / 16) → op u = 1 → wY_step_150 post x1 x2 (nI u) x4 (nI mm) (nI ms) (nI mc) (nI nm) (nI M) (nI S) (nI F) lk sa rn yb yac ypt yde yoc ypc (bA me) (nA ow) (nA le) (nA op) ar (bA wk) vl (nA fm) (nA fn) (nA fs) (bA ft) yld ytg ylv yfd yst ou) : wY_step_130 post x1 x2 (oI (pd_ct op ar tg t)) x4 (nI mm) (nI ms) (nI mc) (nI nm) (nI M) (nI S) (nI F) lk sa rn yb yac ypt yde yoc ypc (bA me) (nA ow) (nA le) (nA op) ar (bA wk) vl (nA fm) (nA fn) (nA fs) (bA ft) yld ytg ylv yfd yst ou := by
  have ok := mc_ct C h1 h2
  have h12 := C.1
  unfold wY_step_130
  cases hu : pd_ct op ar tg t with
  | none => exact yy_cellN (br_t rfl (p0 (fun u z => by rw [hu] at z; cases z)))
  | some u =>
    have hS := mc_S C (ok u hu).1
    have o13 := C.2.2.1.2.2.1 u
    refine yy_cell C.2.2.1.1 (by omega) ?_ ?_
    · intro hl
      refine br_f (by decide) ⟨vp_in_nI (by omega) (by omega), ?_⟩
      rw [oi_s, nI_clamp (by omega), na_ap, li_eq1 (by omega)]
      refine br_c (fun h => p u hu hl h) (fun h => p0 ?_)
      intro u' z
      rw [hu] at z
      cases z
      exact fun _ => h
    · intro hl
      refine br_t rfl (p0 ?_)
      intro u' z z2
      rw [hu] at z
      cases z
      exact absurd z2 hl
theorem yy_s10 {post : Int32 → SY → Prop} {t : Nat} (C : mc_ok nm S iz le op ar rs wd ytg tg cls) (h1 : cls (t / 16) ≠ none) (h2 : t % 16 < le (t / 16)) (ho : op t = 10) (p0 : (∀ u, pd_ct op ar tg t = some u → u % 16 < le (u / 16) → op u ≠ 1) → post 0 (nI mm, nI ms, nI mc, nI nm, nI M, nI S, nI F, lk, sa, rn, yb, yac, ypt, yde, yoc, nI t, bA me, nA ow, nA le, nA op, ar, bA wk, vl, nA fm, nA fn, nA fs, bA ft, yld, ytg, ylv, yfd, yst, ou)) (p : ∀ u, pd_ct op ar tg t = some u → u % 16 < le (u / 16) → op u = 1 → post 1 (nI mm, nI ms, nI mc, nI nm, nI M, nI S, nI F, lk, sa, rn, yb, vl u, ypt, yde, yoc, nI (t + 1), bA me, nA ow, nA le, nA op, ar, bA wk, vl, nA fm, nA fn, nA fs, bA ft, yld, ytg, ylv, yfd, yst, ou)) : wpY_step post (nI mm, nI ms, nI mc, nI nm, nI M, nI S, nI F, lk, sa, rn, yb, yac, ypt, yde, yoc, nI t, bA me, nA ow, nA le, nA op, ar, bA wk, vl, nA fm, nA fn, nA fs, bA ft, yld, ytg, ylv, yfd, yst, ou) := by
  have ok := mc_ct C h1 h2
  have h12 := C.1
  refine yy_st C h1 h2 ?_
  rw [ho]
  refine nm_r (nI_1 t) (br_t (by decide) (br_f (by decide) ?_))
  refine yy_81 (by decide) (yy_95 (by decide) (by decide) ?_)
  unfold wY_step_118
  refine br_t (by decide) (yy_130 C h1 h2 p0 ?_)
  intro u hu hl hd
  have hS := mc_S C (ok u hu).1
  refine yy_150 (by decide) (by decide) (by decide) (yy_203 (by decide) (by decide) ?_)
  unfold wY_step_236
  refine br_t (by decide) ⟨vp_in_nI (by omega) (by omega), nm_r (e' := vl u) (by rw [nI_clamp (by omega)]) ?_⟩
  unfold wY_step_252
  refine br_f (by decide) ?_
  unfold wY_step_268
  refine br_f (by decide) ?_
  unfold wY_step_279
  exact br_f (by decide) (yy_302 (by decide) (by decide) (by decide) (by decide) (by decide) (p u hu hl hd))
theorem yy_s11 {post : Int32 → SY → Prop} {t : Nat} (C : mc_ok nm S iz le op ar rs wd ytg tg cls) (h1 : cls (t / 16) ≠ none) (h2 : t % 16 < le (t / 16)) (ho : op t = 11) (p0 : (∀ u, pd_ct op ar tg t = some u → u % 16 < le (u / 16) → op u ≠ 1) → post 0 (nI mm, nI ms, nI mc, nI nm, nI M, nI S, nI F, lk, sa, rn, yb, yac, ypt, yde, yoc, nI t, bA me, nA ow, nA le, nA op, ar, bA wk, vl, nA fm, nA fn, nA fs, bA ft, yld, ytg, ylv, yfd, yst, ou)) (p : ∀ u, pd_ct op ar tg t = some u → u % 16 < le (u / 16) → op u = 1 → post 1 (nI mm, nI ms, nI mc, nI nm, nI M, nI S, nI F, lk, sa, rn, yb, yac, ypt, yde, yoc, nI (t + 1), bA me, nA ow, nA le, nA op, ar, bA wk, upd vl u yac, nA fm, nA fn, nA fs, bA ft, yld, ytg, ylv, yfd, yst, ou)) : wpY_step post (nI mm, nI ms, nI mc, nI nm, nI M, nI S, nI F, lk, sa, rn, yb, yac, ypt, yde, yoc, nI t, bA me, nA ow, nA le, nA op, ar, bA wk, vl, nA fm, nA fn, nA fs, bA ft, yld, ytg, ylv, yfd, yst, ou) := by
  have ok := mc_ct C h1 h2
  have h12 := C.1
  refine yy_st C h1 h2 ?_
  rw [ho]
  refine nm_r (nI_1 t) (br_t (by decide) (br_f (by decide) ?_))
  refine yy_81 (by decide) (yy_95 (by decide) (by decide) ?_)
  unfold wY_step_118
  refine br_f (by decide) (br_t (by decide) (yy_130 C h1 h2 p0 ?_))
  intro u hu hl hd
  have hS := mc_S C (ok u hu).1
  refine yy_150 (by decide) (by decide) (by decide) (yy_203 (by decide) (by decide) ?_)
  unfold wY_step_236
  refine br_f (by decide) ?_
  unfold wY_step_252
  refine br_t (by decide) ⟨vp_in_nI (by omega) (by omega), nm_r (e' := upd vl u yac) (by rw [nI_clamp (by omega)]) ?_⟩
  unfold wY_step_268
  refine br_f (by decide) ?_
  unfold wY_step_279
  exact br_f (by decide) (yy_302 (by decide) (by decide) (by decide) (by decide) (by decide) (p u hu hl hd))
end
end
section
/-! one step of both -/
def va_ok' (b : Bool) (cls : Nat → Option Nat) (le op : Nat → Nat) (va vl : Nat → Int32) : Prop := ∀ t, cls (t / 16) ≠ none → t % 16 < le (t / 16) → op t = 1 → va (sp_i b cls le t) = vl t
def ms_ok (b : Bool) (cls : Nat → Option Nat) (le op : Nat → Nat) (xo yo : Option Nat) (dd qq : Nat) (sk : Nat → Option Nat) (st yst va vl : Nat → Int32) : Prop :=
  sp_ok cls le xo ∧ sp_ok cls le yo ∧ dd ≤ 8 ∧ qq ≤ 16 ∧ (∀ j, j < dd → st j = sp_x b cls le (sk j) ∧ yst j = oI (sk j) ∧ sp_ok cls le (sk j)) ∧ va_ok' b cls le op va vl
section
variable {mm ms mc nm M S F : Nat} {lk es lc iz rn bi ac pt pc de oc sa yb yac ypt yde yoc ypc : Int32} {me wk ft : Nat → Bool} {ow le op fm fn fs : Nat → Nat} {dn sn wn df ar ld rs lq il pn lo rf po st ou va vl yld ytg ylv yfd yst : Nat → Int32} {wd : Nat → Int64} {bb : Bool} {xo yo : Option Nat} {dd qq : Nat} {tg cls sk : Nat → Option Nat}
theorem zz_same (C : mc_ok nm S iz le op ar rs wd ytg tg cls) (hy : sp_ok cls le yo) {t : Nat} (h1 : cls (t / 16) ≠ none) (h2 : t % 16 < le (t / 16)) (ho : op t = 13) : sp_x bb cls le yo = sp_x bb cls le (pd_ct op ar tg t) ↔ oI yo = oI (pd_ct op ar tg t) := by
  cases bb with
  | false => exact Iff.rfl
  | true =>
    have ok := mc_ct C h1 h2
    have l1 := mc_lt C hy
    have l2 := mc_lt C ok
    have h12 := C.1
    have b1 : ∀ p, yo = some p → p < 2 ^ 31 := fun p hp => by have := mc_S C (hy p hp).1; omega
    have b2 : ∀ p, pd_ct op ar tg t = some p → p < 2 ^ 31 := fun p hp => by have := mc_S C (ok p hp).1; omega
    rw [sp_t, sp_t, nI_eq (by omega) (by omega), oi_inj b1 b2]
    constructor
    · intro h
      cases hv : pd_ct op ar tg t with
      | none =>
        cases yo with
        | none => rfl
        | some u =>
          rw [hv] at h
          have := mc_pos C (hy u rfl).1 (hy u rfl).2
          have e0 : ly_ad cls le none = 0 := rfl
          omega
      | some v =>
        cases yo with
        | none =>
          rw [hv] at h
          have := mc_pos C (ok v hv).1 (ok v hv).2
          have e0 : ly_ad cls le none = 0 := rfl
          omega
        | some u =>
          rw [hv] at h
          rw [mc_inj C (hy u rfl).1 (hy u rfl).2 (ok v hv).1 (ok v hv).2 (fun s hs => C.2.2.2.2.2.2.1.2.2 t v s h1 h2 (Or.inr ho) hv hs) h]
    · intro h
      rw [h]
theorem zz_step (C : mc_ok nm S iz le op ar rs wd ytg tg cls) (H : ms_ok bb cls le op xo yo dd qq sk st yst va vl) : ∃ (r ac' : Int32) (xo' yo' : Option Nat) (dd' qq' : Nat) (sk' : Nat → Option Nat) (st' yst' ou' va' vl' : Nat → Int32), (r = 0 ∨ r = 1) ∧ ms_ok bb cls le op xo' yo' dd' qq' sk' st' yst' va' vl' ∧ (∀ post : Int32 → SX → Prop, post r (nI mm, nI ms, nI mc, nI nm, nI M, nI S, lk, es, lc, iz, rn, bI bb, ac', sp_x bb cls le yo', sp_x bb cls le xo', nI dd', nI qq', bA me, dn, sn, wn, df, nA ow, nA le, nA op, ar, bA wk, ld, rs, lq, il, pn, lo, rf, po, wd, st', ou', va') → wpX_step post (nI mm, nI ms, nI mc, nI nm, nI M, nI S, lk, es, lc, iz, rn, bI bb, ac, sp_x bb cls le yo, sp_x bb cls le xo, nI dd, nI qq, bA me, dn, sn, wn, df, nA ow, nA le, nA op, ar, bA wk, ld, rs, lq, il, pn, lo, rf, po, wd, st, ou, va)) ∧ (∀ post : Int32 → SY → Prop, post r (nI mm, nI ms, nI mc, nI nm, nI M, nI S, nI F, lk, sa, rn, bI bb, ac', oI yo', nI dd', nI qq', oI xo', bA me, nA ow, nA le, nA op, ar, bA wk, vl', nA fm, nA fn, nA fs, bA ft, yld, ytg, ylv, yfd, yst', ou') → wpY_step post (nI mm, nI ms, nI mc, nI nm, nI M, nI S, nI F, lk, sa, rn, bI bb, ac, oI yo, nI dd, nI qq, oI xo, bA me, nA ow, nA le, nA op, ar, bA wk, vl, nA fm, nA fn, nA fs, bA ft, yld, ytg, ylv, yfd, yst, ou)) := by
  have H0 := H
  obtain ⟨m1, m2, m3, m4, m5, m6⟩ := H
  by_cases hcell : ∃ t, xo = some t ∧ t % 16 < le (t / 16)
  · obtain ⟨t, ht, h2⟩ := hcell
    subst ht
    have h1 := (m1 t rfl).1
    have o13 := C.2.2.1.2.2.1 t
    have n1 := sp_1o C h1 h2
    have ok := mc_ct C h1 h2
    have stop : (∀ post : Int32 → SX → Prop, post 0 (nI mm, nI ms, nI mc, nI nm, nI M, nI S, lk, es, lc, iz, rn, bI bb, ac, sp_x bb cls le yo, sp_x bb cls le (some t), nI dd, nI qq, bA me, dn, sn, wn, df, nA ow, nA le, nA op, ar, bA wk, ld, rs, lq, il, pn, lo, rf, po, wd, st, ou, va) → wpX_step post (nI mm, nI ms, nI mc, nI nm, nI M, nI S, lk, es, lc, iz, rn, bI bb, ac, sp_x bb cls le yo, sp_x bb cls le (some t), nI dd, nI qq, bA me, dn, sn, wn, df, nA ow, nA le, nA op, ar, bA wk, ld, rs, lq, il, pn, lo, rf, po, wd, st, ou, va)) → (∀ post : Int32 → SY → Prop, post 0 (nI mm, nI ms, nI mc, nI nm, nI M, nI S, nI F, lk, sa, rn, bI bb, ac, oI yo, nI dd, nI qq, oI (some t), bA me, nA ow, nA le, nA op, ar, bA wk, vl, nA fm, nA fn, nA fs, bA ft, yld, ytg, ylv, yfd, yst, ou) → wpY_step post (nI mm, nI ms, nI mc, nI nm, nI M, nI S, nI F, lk, sa, rn, bI bb, ac, oI yo, nI dd, nI qq, oI (some t), bA me, nA ow, nA le, nA op, ar, bA wk, vl, nA fm, nA fn, nA fs, bA ft, yld, ytg, ylv, yfd, yst, ou)) → ∃ (r ac' : Int32) (xo' yo' : Option Nat) (dd' qq' : Nat) (sk' : Nat → Option Nat) (st' yst' ou' va' vl' : Nat → Int32), (r = 0 ∨ r = 1) ∧ ms_ok bb cls le op xo' yo' dd' qq' sk' st' yst' va' vl' ∧ (∀ post : Int32 → SX → Prop, post r (nI mm, nI ms, nI mc, nI nm, nI M, nI S, lk, es, lc, iz, rn, bI bb, ac', sp_x bb cls le yo', sp_x bb cls le xo', nI dd', nI qq', bA me, dn, sn, wn, df, nA ow, nA le, nA op, ar, bA wk, ld, rs, lq, il, pn, lo, rf, po, wd, st', ou', va') → wpX_step post (nI mm, nI ms, nI mc, nI nm, nI M, nI S, lk, es, lc, iz, rn, bI bb, ac, sp_x bb cls le yo, sp_x bb cls le (some t), nI dd, nI qq, bA me, dn, sn, wn, df, nA ow, nA le, nA op, ar, bA wk, ld, rs, lq, il, pn, lo, rf, po, wd, st, ou, va)) ∧ (∀ post : Int32 → SY → Prop, post r (nI mm, nI ms, nI mc, nI nm, nI M, nI S, nI F, lk, sa, rn, bI bb, ac', oI yo', nI dd', nI qq', oI xo', bA me, nA ow, nA le, nA op, ar, bA wk, vl', nA fm, nA fn, nA fs, bA ft, yld, ytg, ylv, yfd, yst', ou') → wpY_step post (nI mm, nI ms, nI mc, nI nm, nI M, nI S, nI F, lk, sa, rn, bI bb, ac, oI yo, nI dd, nI qq, oI (some t), bA me, nA ow, nA le, nA op, ar, bA wk, vl, nA fm, nA fn, nA fs, bA ft, yld, ytg, ylv, yfd, yst, ou)) := by
      intro hx hy
      exact ⟨0, ac, some t, yo, dd, qq, sk, st, yst, ou, va, vl, Or.inl rfl, H0, hx, hy⟩
    rcases (by omega : op t ≤ 1 ∨ op t = 2 ∨ op t = 3 ∨ op t = 4 ∨ op t = 5 ∨ op t = 6 ∨ op t = 7 ∨ op t = 8 ∨ op t = 9 ∨ op t = 10 ∨ op t = 11 ∨ op t = 12 ∨ op t = 13) with ho | ho | ho | ho | ho | ho | ho | ho | ho | ho | ho | ho | ho
    · exact stop (fun post p => xx_s01 C h1 h2 ho p) (fun post p => yy_s01 C h1 h2 ho p)
    · exact ⟨1, ar t, some (t + 1), yo, dd, qq, sk, st, yst, ou, va, vl, Or.inr rfl, ⟨n1, m2, m3, m4, m5, m6⟩, fun post p => xx_s2 C h1 h2 ho p, fun post p => yy_s2 C h1 h2 ho p⟩
    · exact ⟨1, ac + ar t, some (t + 1), yo, dd, qq, sk, st, yst, ou, va, vl, Or.inr rfl, ⟨n1, m2, m3, m4, m5, m6⟩, fun post p => xx_s3 C h1 h2 ho p, fun post p => yy_s3 C h1 h2 ho p⟩
    · by_cases hq : qq < 16
      · exact ⟨1, ac, some (t + 1), yo, dd, qq + 1, sk, st, yst, upd ou qq ac, va, vl, Or.inr rfl, ⟨n1, m2, m3, hq, m5, m6⟩, fun post p => xx_s4 C h1 h2 ho m4 (fun z => absurd hq z) (fun _ => p), fun post p => yy_s4 C h1 h2 ho m4 (fun z => absurd hq z) (fun _ => p)⟩
      · exact stop (fun post p => xx_s4 C h1 h2 ho m4 (fun _ => p) (fun z => absurd z hq)) (fun post p => yy_s4 C h1 h2 ho m4 (fun _ => p) (fun z => absurd z hq))
    · by_cases hd : dd = 0
      · exact stop (fun post p => xx_s5 C h1 h2 ho m3 (fun _ => p) (fun z => by omega)) (fun post p => yy_s5 C h1 h2 ho m3 (fun _ => p) (fun z => by omega))
      · obtain ⟨k1, k2, k3⟩ := m5 (dd - 1) (by omega)
        refine ⟨1, ac, sk (dd - 1), yo, dd - 1, qq, sk, st, yst, ou, va, vl, Or.inr rfl, ⟨k3, m2, by omega, m4, fun j hj => m5 j (by omega), m6⟩, fun post p => xx_s5 C h1 h2 ho m3 (fun z => absurd z hd) (fun _ => ?_), fun post p => yy_s5 C h1 h2 ho m3 (fun z => absurd z hd) (fun _ => ?_)⟩
        · rw [k1]; exact p
        · rw [k2]; exact p
    · by_cases hd : dd < 8
      · refine ⟨1, ac, yo, yo, dd + 1, qq, fun j => if j = dd then some (t + 1) else sk j, upd st dd (sp_x bb cls le (some (t + 1))), upd yst dd (oI (some (t + 1))), ou, va, vl, Or.inr rfl, ⟨m2, m2, by omega, m4, ?_, m6⟩, fun post p => xx_s6 C h1 h2 ho m3 (fun z => absurd hd z) (fun _ => p), fun post p => yy_s6 C h1 h2 ho m3 (fun z => absurd hd z) (fun _ => p)⟩
        intro j hj
        dsimp only
        by_cases e : j = dd
        · rw [if_pos e, e, pk_us, pk_us]; exact ⟨rfl, rfl, n1⟩
        · rw [if_neg e, pk_un e, pk_un e]; exact m5 j (by omega)
      · exact stop (fun post p => xx_s6 C h1 h2 ho m3 (fun _ => p) (fun z => absurd z hd)) (fun post p => yy_s6 C h1 h2 ho m3 (fun _ => p) (fun z => absurd z hd))
    · by_cases hd : dd < 8
      · refine ⟨1, ac, pd_ct op ar tg t, yo, dd + 1, qq, fun j => if j = dd then some (t + 1) else sk j, upd st dd (sp_x bb cls le (some (t + 1))), upd yst dd (oI (some (t + 1))), ou, va, vl, Or.inr rfl, ⟨ok, m2, by omega, m4, ?_, m6⟩, fun post p => xx_s7 C h1 h2 ho m3 (fun z => absurd hd z) (fun _ => p), fun post p => yy_s7 C h1 h2 ho m3 (fun z => absurd hd z) (fun _ => p)⟩
        intro j hj
        dsimp only
        by_cases e : j = dd
        · rw [if_pos e, e, pk_us, pk_us]; exact ⟨rfl, rfl, n1⟩
        · rw [if_neg e, pk_un e, pk_un e]; exact m5 j (by omega)
      · exact stop (fun post p => xx_s7 C h1 h2 ho m3 (fun _ => p) (fun z => absurd z hd)) (fun post p => yy_s7 C h1 h2 ho m3 (fun _ => p) (fun z => absurd z hd))
    · exact ⟨1, ac, pd_ct op ar tg t, yo, dd, qq, sk, st, yst, ou, va, vl, Or.inr rfl, ⟨ok, m2, m3, m4, m5, m6⟩, fun post p => xx_s8 C h1 h2 ho p, fun post p => yy_s8 C h1 h2 ho p⟩
    · by_cases ha : ac = 0
      · exact ⟨1, ac, pd_ct op ar tg t, yo, dd, qq, sk, st, yst, ou, va, vl, Or.inr rfl, ⟨ok, m2, m3, m4, m5, m6⟩, fun post p => xx_s9 C h1 h2 ho (fun _ => p) (fun z => absurd ha z), fun post p => yy_s9 C h1 h2 ho (fun _ => p) (fun z => absurd ha z)⟩
      · exact ⟨1, ac, some (t + 1), yo, dd, qq, sk, st, yst, ou, va, vl, Or.inr rfl, ⟨n1, m2, m3, m4, m5, m6⟩, fun post p => xx_s9 C h1 h2 ho (fun z => absurd z ha) (fun _ => p), fun post p => yy_s9 C h1 h2 ho (fun z => absurd z ha) (fun _ => p)⟩
    · by_cases hx : ∃ u, pd_ct op ar tg t = some u ∧ u % 16 < le (u / 16) ∧ op u = 1
      · obtain ⟨u, u1, u2, u3⟩ := hx
        have ev := m6 u (ok u u1).1 u2 u3
        refine ⟨1, vl u, some (t + 1), yo, dd, qq, sk, st, yst, ou, va, vl, Or.inr rfl, ⟨n1, m2, m3, m4, m5, m6⟩, fun post p => xx_s10 C h1 h2 ho u1 u2 u3 ?_, fun post p => yy_s10 C h1 h2 ho (fun z => absurd u3 (z u u1 u2)) ?_⟩
        · rw [ev]; exact p
        · intro u' z _ _
          have e : u = u' := Option.some.inj (u1.symm.trans z)
          subst e
          exact p
      · exact stop (fun post p => xx_sD0 C h1 h2 (Or.inl ho) (fun u z1 z2 z3 => hx ⟨u, z1, z2, z3⟩) p) (fun post p => yy_s10 C h1 h2 ho (fun _ => p) (fun u z1 z2 z3 => absurd ⟨u, z1, z2, z3⟩ hx))
    · by_cases hx : ∃ u, pd_ct op ar tg t = some u ∧ u % 16 < le (u / 16) ∧ op u = 1
      · obtain ⟨u, u1, u2, u3⟩ := hx
        refine ⟨1, ac, some (t + 1), yo, dd, qq, sk, st, yst, ou, upd va (sp_i bb cls le u) ac, upd vl u ac, Or.inr rfl, ⟨n1, m2, m3, m4, m5, ?_⟩, fun post p => xx_s11 C h1 h2 ho u1 u2 u3 p, fun post p => yy_s11 C h1 h2 ho (fun z => absurd u3 (z u u1 u2)) ?_⟩
        · intro w w1 w2 w3
          by_cases e : w = u
          · rw [e, pk_us, pk_us]
          · rw [pk_un e, pk_un]
            · exact m6 w w1 w2 w3
            · intro z
              apply e
              cases bb with
              | false => exact z
              | true => exact mc_inj C w1 (by omega) (ok u u1).1 (ok u u1).2 (fun s hs => C.2.2.2.2.2.2.1.2.2 t u s h1 h2 (Or.inl ho) u1 hs) z
        · intro u' z _ _
          have e : u = u' := Option.some.inj (u1.symm.trans z)
          subst e
          exact p
      · exact stop (fun post p => xx_sD0 C h1 h2 (Or.inr ho) (fun u z1 z2 z3 => hx ⟨u, z1, z2, z3⟩) p) (fun post p => yy_s11 C h1 h2 ho (fun _ => p) (fun u z1 z2 z3 => absurd ⟨u, z1, z2, z3⟩ hx))
    · exact ⟨1, ac, some (t + 1), pd_ct op ar tg t, dd, qq, sk, st, yst, ou, va, vl, Or.inr rfl, ⟨n1, ok, m3, m4, m5, m6⟩, fun post p => xx_s12 C h1 h2 ho p, fun post p => yy_s12 C h1 h2 ho p⟩
    · have hs := zz_same (bb := bb) C m2 h1 h2 ho
      by_cases he : oI yo = oI (pd_ct op ar tg t)
      · exact ⟨1, 1, some (t + 1), yo, dd, qq, sk, st, yst, ou, va, vl, Or.inr rfl, ⟨n1, m2, m3, m4, m5, m6⟩, fun post p => xx_s13 C h1 h2 ho (fun _ => p) (fun z => absurd (hs.mpr he) z), fun post p => yy_s13 C h1 h2 ho (fun _ => p) (fun z => absurd he z)⟩
      · exact ⟨1, 0, some (t + 1), yo, dd, qq, sk, st, yst, ou, va, vl, Or.inr rfl, ⟨n1, m2, m3, m4, m5, m6⟩, fun post p => xx_s13 C h1 h2 ho (fun z => absurd (hs.mp z) he) (fun _ => p), fun post p => yy_s13 C h1 h2 ho (fun z => absurd z he) (fun _ => p)⟩
  · have hn : ∀ t, xo = some t → ¬ t % 16 < le (t / 16) := fun t z1 z2 => hcell ⟨t, z1, z2⟩
    exact ⟨0, ac, xo, yo, dd, qq, sk, st, yst, ou, va, vl, Or.inl rfl, H0, fun post p => xx_sN C m1 hn p, fun post p => yy_sN C m1 hn p⟩
end
end
section
/-! runs -/
section
variable {mm ms mc nm M S F : Nat} {lk es lc iz rn bi ac pt pc de oc sa yb yac ypt yde yoc ypc : Int32} {me wk ft : Nat → Bool} {ow le op fm fn fs : Nat → Nat} {dn sn wn df ar ld rs lq il pn lo rf po st ou va vl yld ytg ylv yfd yst : Nat → Int32} {wd : Nat → Int64} {bb : Bool} {xo yo : Option Nat} {dd qq : Nat} {tg cls sk : Nat → Option Nat}
theorem zz_runs {steps : Int32} {lim : Nat} (C : mc_ok nm S iz le op ar rs wd ytg tg cls) (hlim : lim ≤ 400) (hl : ∀ i, i < lim → ¬ (400 : Int32) ≤ nI i ∧ ¬ steps ≤ nI i) (he : (400 : Int32) ≤ nI lim ∨ steps ≤ nI lim) : ∀ (d i : Nat) (ac : Int32) (xo yo : Option Nat) (dd qq : Nat) (sk : Nat → Option Nat) (st yst ou va vl : Nat → Int32), i + d = lim → ms_ok bb cls le op xo yo dd qq sk st yst va vl → ∃ (r ac' : Int32) (xo' yo' : Option Nat) (dd' qq' : Nat) (sk' : Nat → Option Nat) (st' yst' ou' va' vl' : Nat → Int32), ms_ok bb cls le op xo' yo' dd' qq' sk' st' yst' va' vl' ∧ (∀ post : Int32 → SX → Prop, post r (nI mm, nI ms, nI mc, nI nm, nI M, nI S, lk, es, lc, iz, rn, bI bb, ac', sp_x bb cls le yo', sp_x bb cls le xo', nI dd', nI qq', bA me, dn, sn, wn, df, nA ow, nA le, nA op, ar, bA wk, ld, rs, lq, il, pn, lo, rf, po, wd, st', ou', va') → wX_run_28 post (nI lim) (d + 1) (nI i) (nI mm) (nI ms) (nI mc) (nI nm) (nI M) (nI S) lk es lc iz rn (bI bb) ac (sp_x bb cls le yo) (sp_x bb cls le xo) (nI dd) (nI qq) (bA me) dn sn wn df (nA ow) (nA le) (nA op) ar (bA wk) ld rs lq il pn lo rf po wd st ou va) ∧ (∀ post : Int32 → SY → Prop, post r (nI mm, nI ms, nI mc, nI nm, nI M, nI S, nI F, lk, sa, rn, bI bb, ac', oI yo', nI dd', nI qq', oI xo', bA me, nA ow, nA le, nA op, ar, bA wk, vl', nA fm, nA fn, nA fs, bA ft, yld, ytg, ylv, yfd, yst', ou') → wY_run_82 post steps (d + 1) (nI i) (nI mm) (nI ms) (nI mc) (nI nm) (nI M) (nI S) (nI F) lk sa rn (bI bb) ac (oI yo) (nI dd) (nI qq) (oI xo) (bA me) (nA ow) (nA le) (nA op) ar (bA wk) vl (nA fm) (nA fn) (nA fs) (bA ft) yld ytg ylv yfd yst ou) := by
  intro d
  induction d with
  | zero =>
    intro i ac xo yo dd qq sk st yst ou va vl hi H
    obtain rfl : i = lim := by omega
    refine ⟨1, ac, xo, yo, dd, qq, sk, st, yst, ou, va, vl, H, fun post p => br_t (nI_le (Nat.le_refl _) (by omega)) p, fun post p => ?_⟩
    rcases he with h | h
    · exact br_t h p
    · exact br_c (fun _ => p) (fun _ => br_t h p)
  | succ d ih =>
    intro i ac xo yo dd qq sk st yst ou va vl hi H
    obtain ⟨y1, y2⟩ := hl i (by omega)
    have x1 : ¬ nI lim ≤ nI i := nI_ge (by omega) (by omega)
    obtain ⟨r, ac1, xo1, yo1, dd1, qq1, sk1, st1, yst1, ou1, va1, vl1, hr, H1, hX, hY⟩ := zz_step (mm := mm) (ms := ms) (mc := mc) (M := M) (F := F) (lk := lk) (es := es) (lc := lc) (rn := rn) (ac := ac) (sa := sa) (me := me) (wk := wk) (ft := ft) (ow := ow) (fm := fm) (fn := fn) (fs := fs) (dn := dn) (sn := sn) (wn := wn) (df := df) (ld := ld) (lq := lq) (il := il) (pn := pn) (lo := lo) (rf := rf) (po := po) (ou := ou) (yld := yld) (ylv := ylv) (yfd := yfd) C H
    rcases hr with h | h
    · refine ⟨0, ac1, xo1, yo1, dd1, qq1, sk1, st1, yst1, ou1, va1, vl1, H1, fun post p => br_f x1 (hX _ (br_t h ?_)), fun post p => br_f y1 (br_f y2 (hY _ (br_t h ?_)))⟩
      · exact p
      · exact p
    · obtain ⟨r2, ac2, xo2, yo2, dd2, qq2, sk2, st2, yst2, ou2, va2, vl2, H2, hX2, hY2⟩ := ih (i + 1) ac1 xo1 yo1 dd1 qq1 sk1 st1 yst1 ou1 va1 vl1 (by omega) H1
      have hne : ¬ r = 0 := by rw [h]; decide
      exact ⟨r2, ac2, xo2, yo2, dd2, qq2, sk2, st2, yst2, ou2, va2, vl2, H2, fun post p => br_f x1 (hX _ (br_f hne (nm_r (nI_1 i) (hX2 post p)))), fun post p => br_f y1 (br_f y2 (hY _ (br_f hne (nm_r (nI_1 i) (hY2 post p)))))⟩
end
section
variable {mm ms mc nm M S : Nat} {lk es lc iz rn bi ac pt pc de oc : Int32} {me wk : Nat → Bool} {ow le op : Nat → Nat} {dn sn wn df ar ld rs lq il pn lo rf po st ou va : Nat → Int32} {wd : Nat → Int64} {ytg : Nat → Int32} {bb : Bool} {xo yo : Option Nat} {dd qq : Nat} {tg cls : Nat → Option Nat}
theorem xx_start {post : SX → Prop} {t0 : Nat} (C : mc_ok nm S iz le op ar rs wd ytg tg cls) (hpo : ∀ s, s < S → po s = oI (ly_po cls le s)) (ht : sp_ok cls le (some t0)) (p : ∀ va, va_ok' bb cls le op va ar → post (nI mm, nI ms, nI mc, nI nm, nI M, nI S, lk, nI t0, lc, iz, 1, bI bb, 0, sp_x bb cls le none, sp_x bb cls le (some t0), 0, 0, bA me, dn, sn, wn, df, nA ow, nA le, nA op, ar, bA wk, ld, rs, lq, il, pn, lo, rf, po, wd, st, ou, va)) : wpX_start post (nI mm, nI ms, nI mc, nI nm, nI M, nI S, lk, nI t0, lc, iz, rn, bi, ac, pt, pc, de, oc, bA me, dn, sn, wn, df, nA ow, nA le, nA op, ar, bA wk, ld, rs, lq, il, pn, lo, rf, po, wd, st, ou, va) (bI bb) := by
  have h12 := C.1
  have hS := mc_S C (ht t0 rfl).1
  have lt := mc_lt C ht
  cases bb with
  | false =>
    refine ⟨rfl, rfl, br_t rfl ?_⟩
    refine br_t rfl ?_
    refine br_t rfl (nm_r (li_m16 S) ⟨S * 16 + 1, ?_⟩)
    have key : ∀ d i va, i + d = S * 16 → (∀ j, j < i → va j = ar j) → wX_start_82 post (nI (S * 16)) (nI mm) (nI ms) (nI mc) (nI nm) (nI M) (nI S) lk (nI t0) lc iz 1 0 0 (-1) (nI t0) 0 0 (d + 1) (nI i) (bA me) dn sn wn df (nA ow) (nA le) (nA op) ar (bA wk) ld rs lq il pn lo rf po wd st ou va := by
      intro d
      induction d with
      | zero =>
        intro i va hi h
        obtain rfl : i = S * 16 := by omega
        refine br_t (nI_le (Nat.le_refl _) (by omega)) (p va ?_)
        intro t h1 h2 h3
        have := mc_S C h1
        exact h t (by omega)
      | succ d ih =>
        intro i va hi h
        have hin : vp_in (nI i) 192 := vp_in_nI (by omega) (by omega)
        have c0 := nI_clamp (n := i) (by omega)
        refine br_f (nI_ge (by omega) (by omega)) (br_t rfl ⟨hin, hin, nm_e (nm_r (nI_1 i) (ih (i + 1) _ (by omega) ?_))⟩)
        rw [c0]
        refine all_s (fun j hj => ?_) pk_us
        rw [pk_un (by omega)]
        exact h j hj
    exact key (S * 16) 0 va (by omega) (fun j hj => absurd hj (Nat.not_lt_zero j))
  | true =>
    refine ⟨rfl, rfl, br_f (by decide) ?_⟩
    refine br_f (by decide) ?_
    refine xx_adr (cls := cls) (x := some t0) h12 hpo (fun t h => by cases h; exact ⟨hS, (ht t0 rfl).1⟩) ?_
    refine br_f (by decide) ⟨ly_nx cls le S + 1, ?_⟩
    rw [C.2.2.2.2.2.2.2.1] at p ⊢
    have key : ∀ d i va, i + d = ly_nx cls le S → (∀ j, j < i → va j = (wd j >>> ((4 : Int32).toInt64 &&& 63)).toInt32) → wX_start_82 post (nI (ly_nx cls le S)) (nI mm) (nI ms) (nI mc) (nI nm) (nI M) (nI S) lk (nI t0) lc (nI (ly_nx cls le S)) 1 1 0 0 (nI (ly_ad cls le (some t0))) 0 0 (d + 1) (nI i) (bA me) dn sn wn df (nA ow) (nA le) (nA op) ar (bA wk) ld rs lq il pn lo rf po wd st ou va := by
      intro d
      induction d with
      | zero =>
        intro i va hi h
        obtain rfl : i = ly_nx cls le S := by omega
        refine br_t (nI_le (Nat.le_refl _) (by omega)) (p va ?_)
        intro t h1 h2 h3
        have lt2 := mc_lt C (x := some t) (fun u hu => by cases hu; exact ⟨h1, by omega⟩)
        obtain ⟨q, q1, q2⟩ := mc_cell C h1 h2
        have oq := q2.1
        show va (ly_ad cls le (some t)) = ar t
        rw [h _ lt2.1, q1]
        unfold ly_w
        rw [wo_shr _ (by omega)]
        have : ly_opd op ar (pd_ct op ar tg) cls le q (ly_ad cls le (some t)) = ar q := if_pos (by omega)
        rw [this, q2.2.1 (by omega)]
      | succ d ih =>
        intro i va hi h
        have hin : vp_in (nI i) 192 := vp_in_nI (by omega) (by omega)
        have hin2 : vp_in (nI i) 160 := vp_in_nI (by omega) (by omega)
        have c0 := nI_clamp (n := i) (by omega)
        refine br_f (nI_ge (by omega) (by omega)) (br_f (by decide) ⟨hin2, hin, nm_e (nm_r (nI_1 i) (ih (i + 1) _ (by omega) ?_))⟩)
        rw [c0]
        refine all_s (fun j hj => ?_) pk_us
        rw [pk_un (by omega)]
        exact h j hj
    exact key (ly_nx cls le S) 0 va (by omega) (fun j hj => absurd hj (Nat.not_lt_zero j))
end
section
variable {mm ms mc nm M S F : Nat} {lk sa rn yb yac ypt yde yoc ypc : Int32} {me wk ft : Nat → Bool} {ow le op fm fn fs : Nat → Nat} {ar vl yld ytg ylv yfd yst ou : Nat → Int32}
def yv_l (ar vl : Nat → Int32) (i : Nat) : Nat → Int32 := fun j => if j < i then ar j else vl j
theorem yv_s (ar vl : Nat → Int32) (i : Nat) : upd (yv_l ar vl i) i (ar i) = yv_l ar vl (i + 1) := by
  funext j
  by_cases e : j = i
  · rw [e, pk_us]
    exact (if_pos (Nat.lt_succ_self i)).symm
  · rw [pk_un e]
    show (if j < i then ar j else vl j) = if j < i + 1 then ar j else vl j
    by_cases z : j < i
    · rw [if_pos z, if_pos (by omega)]
    · rw [if_neg z, if_neg (by omega)]
theorem yy_start {post : Int32 → SY → Prop} {bb : Bool} {e t0 : Nat} {steps : Int32} (hlk : ¬ lk = 0) (he : e < 16) (ht : ytg e = nI t0) (p : ∃ n, wY_run_82 post steps n 0 (nI mm) (nI ms) (nI mc) (nI nm) (nI M) (nI S) (nI F) lk (nI e) 1 (bI bb) 0 (-1) 0 0 (nI t0) (bA me) (nA ow) (nA le) (nA op) ar (bA wk) (yv_l ar vl 192) (nA fm) (nA fn) (nA fs) (bA ft) yld ytg ylv yfd yst ou) : wpY_run post (nI mm, nI ms, nI mc, nI nm, nI M, nI S, nI F, lk, nI e, rn, yb, yac, ypt, yde, yoc, ypc, bA me, nA ow, nA le, nA op, ar, bA wk, vl, nA fm, nA fn, nA fs, bA ft, yld, ytg, ylv, yfd, yst, ou) (bI bb) steps := by
  have n1 : narrow .boolean (.int (bI bb)) = .int (bI bb) := by cases bb <;> rfl
  have n2 : fits .boolean (.int (bI bb)) = true := by cases bb <;> rfl
  have key : ∀ d i, i + d = 192 → wY_run_55 post steps (nI mm) (nI ms) (nI mc) (nI nm) (nI M) (nI S) (nI F) lk (nI e) 1 (bI bb) 0 (-1) 0 0 (nI t0) (d + 1) (nI i) (bA me) (nA ow) (nA le) (nA op) ar (bA wk) (yv_l ar vl i) (nA fm) (nA fn) (nA fs) (bA ft) yld ytg ylv yfd yst ou := by
    intro d
    induction d with
    | zero =>
      intro i hi
      obtain rfl : i = 192 := by omega
      exact br_t (nI_le (a := 192) (Nat.le_refl _) (by decide)) p
    | succ d ih =>
      intro i hi
      have hin : vp_in (nI i) 192 := vp_in_nI (by omega) (by omega)
      have c0 := nI_clamp (n := i) (by omega)
      exact br_f (nI_ge (b := 192) (by omega) (by decide)) ⟨hin, hin, nm_r (e' := yv_l ar vl (i + 1)) (by rw [c0, yv_s]) (nm_r (nI_1 i) (ih (i + 1) (by omega)))⟩
  have e0 : yv_l ar vl 0 = vl := by
    funext j
    exact if_neg (Nat.not_lt_zero j)
  have k0 := key 192 0 (by omega)
  rw [e0] at k0
  refine br_f hlk ⟨n1, n2, vp_in_nI he (by decide), nm_r (e' := nI t0) (by rw [nI_clamp (by omega)]; exact ht) ⟨193, k0⟩⟩
end
theorem cl_run (v : Int32) : ∃ lim, lim ≤ 400 ∧ (∀ i, i < lim → ¬ (400 : Int32) ≤ nI i ∧ ¬ v ≤ nI i) ∧ ((400 : Int32) ≤ nI lim ∨ v ≤ nI lim) ∧ ∀ (post : Int32 → Prop) (u : SX), post (nI lim) → wpX_clamp post u v 0 400 := by
  by_cases h0 : v < 0
  · refine ⟨0, by omega, fun i hi => absurd hi (Nat.not_lt_zero i), Or.inr (Int32.le_of_lt h0), fun post u p => br_f (Int32.not_le.mpr h0) p⟩
  · obtain ⟨j, hj, rfl⟩ := nI_of h0
    by_cases h4 : j ≤ 400
    · refine ⟨j, h4, fun i hi => ⟨nI_ge (b := 400) (by omega) (by decide), nI_ge hi hj⟩, Or.inr (nI_le (Nat.le_refl _) hj), fun post u p => br_t (nI_pos' hj) (br_t (nI_le (b := 400) h4 (by decide)) p)⟩
    · refine ⟨400, Nat.le_refl _, fun i hi => ⟨nI_ge (b := 400) hi (by decide), nI_ge (by omega) hj⟩, Or.inl (nI_le (a := 400) (Nat.le_refl _) (by decide)), fun post u p => br_t (nI_pos' hj) (br_f (nI_ge (a := 400) (by omega) hj) p)⟩
theorem i_vc_run {k : Nat} {u : SX} {v : SY} (I : i_Rel k u v) (hk : k + 4 ≤ 2052) (v1 : Int32) (v2 : Int32) : wpX_run (fun r u' => wpY_run (fun r' v' => r' = r ∧ i_Rel (k + 4) u' v') v (lw_bz v1) v2) u (lw_bz v1) v2 := by
  obtain ⟨bb, hb⟩ := bz_b v1
  rw [hb]
  refine zz_el (P := fun u v => wpX_run (fun r u' => wpY_run (fun r' v' => r' = r ∧ i_Rel (k + 4) u' v') v (bI bb) v2) u (bI bb) v2) ?_ I
  intro mm ms mc nm M S F lk es lc iz rn bi ac pt pc de oc sa yb yac ypt yde yoc ypc me wk ft ow le op fm fn fs dn sn wn df ar ld rs lq il pn lo rf po st ou va vl yld ytg ylv yfd yst wd dm ds wq dp h g
  have h0 := h
  obtain ⟨⟨n1, n2, n3, n4, n5, n6⟩, h2, h3, h4, h5, h6, h7⟩ := h
  rcases g with ⟨l1, l2⟩ | ⟨l1, tg, cls, t0, e, rk, rr⟩
  · exact br_t l1 (br_t l1 ⟨rfl, zz_in h0 (Or.inl ⟨l1, l2⟩)⟩)
  · have ln : ¬ lk = 0 := by rw [l1]; decide
    have rk0 := rk
    obtain ⟨⟨e1, e2, e3, e4, e5⟩, r2, r3, r4, r5, r6, r7, r8, r9, r10, r11⟩ := rk
    have C : mc_ok nm S iz le op ar rs wd ytg tg cls := ⟨by omega, n4, h2, r3, r4, r5, r6, r9, r10⟩
    have ht : sp_ok cls le (some t0) := fun t hh => by cases hh; exact ⟨e5, (r5 e t0 e4).2⟩
    have hN : sp_ok cls le none := fun t hh => by cases hh
    subst e1
    subst e3
    obtain ⟨lim, c1, c2, c3, c4⟩ := cl_run v2
    refine br_f ln (xx_start C r8 ht ?_)
    intro va hva
    refine c4 _ _ ?_
    have H : ms_ok bb cls le op (some t0) none 0 0 (fun _ => none) st yst va (yv_l ar vl 192) := by
      refine ⟨ht, hN, Nat.zero_le _, Nat.zero_le _, fun j hj => absurd hj (Nat.not_lt_zero j), ?_⟩
      intro t z1 z2 z3
      have := mc_S C z1
      rw [hva t z1 z2 z3]
      exact (if_pos (by omega)).symm
    obtain ⟨r, ac', xo', yo', dd', qq', sk', st', yst', ou', va', vl', H', hX, hY⟩ := zz_runs (mm := mm) (ms := ms) (mc := mc) (M := M) (F := F) (lk := lk) (es := nI t0) (lc := lc) (rn := 1) (sa := nI e) (me := me) (wk := wk) (ft := ft) (ow := ow) (fm := fm) (fn := fn) (fs := fs) (dn := dn) (sn := sn) (wn := wn) (df := df) (ld := ld) (lq := lq) (il := il) (pn := pn) (lo := lo) (rf := rf) (po := po) (yld := yld) (ylv := ylv) (yfd := yfd) (steps := v2) (lim := lim) C c1 c2 c3 lim 0 0 (some t0) none 0 0 (fun _ => none) st yst ou va (yv_l ar vl 192) (by omega) H
    refine ⟨lim + 1, hX _ ?_⟩
    refine yy_start (e := e) (t0 := t0) ln (by omega) (by rw [r4 e e2, e4, oi_s]) ⟨lim + 1, hY _ ⟨rfl, ?_⟩⟩
    refine zz_in h0 (Or.inr ⟨l1, tg, cls, t0, e, rk0, Or.inr ⟨rfl, bb, xo', qq', rfl, rfl, rfl, rfl, H'.2.2.2.1, rfl, rfl, H'.1⟩⟩)
end
