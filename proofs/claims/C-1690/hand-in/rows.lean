section
/-! rows of the kit/rows file PURE-ROWS and one row of BITS, pasted -/
theorem pk_sub {a b : Nat} (h : b ≤ a) : nI a - nI b = nI (a - b) := by
  obtain ⟨c, rfl⟩ : ∃ c, a = c + b := ⟨a - b, by omega⟩
  rw [← nI_add, Int32.add_sub_cancel, Nat.add_sub_cancel]
theorem pk_m1 (n : Nat) : nI (n + 1) + (-1) = nI n := by
  rw [← nI_1, Int32.add_assoc, show (1 : Int32) + (-1) = 0 from rfl, Int32.add_zero]
theorem pk_mul (a b : Nat) : nI a * nI b = nI (a * b) := (Int32.ofNat_mul a b).symm
theorem pk_div {a d : Nat} (ha : a < 2 ^ 31) (h0 : 0 < d) (hd : d < 2 ^ 31) : nI a / nI d = nI (a / d) := by
  apply Int32.toInt_inj.mp
  rw [lg_idiv_nonneg (by rw [nI_toInt ha]; omega) (by rw [nI_toInt hd]; omega), nI_toInt ha, nI_toInt hd, nI_toInt (Nat.lt_of_le_of_lt (Nat.div_le_self a d) ha)]
  first | rfl | exact (Int.natCast_ediv _ _).symm
theorem pk_rem {a d : Nat} (ha : a < 2 ^ 31) (h0 : 0 < d) (hd : d < 2 ^ 31) : nI a - nI a / nI d * nI d = nI (a % d) := by
  rw [pk_div ha h0 hd, pk_mul, pk_sub (Nat.div_mul_le_self a d)]
  exact congrArg nI (by have := Nat.div_add_mod' a d; omega)
theorem pk_sub_toInt {a b : Nat} (ha : a < 2 ^ 30) (hb : b < 2 ^ 30) : (nI a - nI b).toInt = (a : Int) - b := by
  rw [Int32.toInt_sub, nI_toInt (by omega), nI_toInt (by omega)]
  exact Int.bmod_eq_of_le (by omega) (by omega)
theorem pk_tn {n : Nat} (h : n < 2 ^ 32) : (nI n).toBitVec.toNat = n := Nat.mod_eq_of_lt h
theorem pk_shl (a s : Int32) (k : Nat) (hs : (s.toBitVec.smod 32).toNat = k) : (a <<< s).toBitVec.toNat = a.toBitVec.toNat * 2 ^ k % 2 ^ 32 := by
  show (a.toBitVec <<< (s.toBitVec.smod 32).toNat).toNat = _
  rw [hs, BitVec.toNat_shiftLeft, Nat.shiftLeft_eq]
theorem pk_shlN {n : Nat} (s : Int32) (k : Nat) (hs : (s.toBitVec.smod 32).toNat = k) (h : n * 2 ^ k < 2 ^ 32) : nI n <<< s = nI (n * 2 ^ k) := by
  apply Int32.toBitVec_inj.mp
  apply BitVec.eq_of_toNat_eq
  have hn : n < 2 ^ 32 := Nat.lt_of_le_of_lt (Nat.le_mul_of_pos_right n (Nat.two_pow_pos k)) h
  rw [pk_shl _ _ k hs, pk_tn hn, pk_tn h, Nat.mod_eq_of_lt h]
theorem pk_shr (a s : Int32) (k : Nat) (hs : (s.toBitVec.smod 32).toNat = k) : (a >>> s).toInt = a.toInt >>> k := by
  show (a.toBitVec.sshiftRight (s.toBitVec.smod 32).toNat).toInt = _
  rw [hs, BitVec.toInt_sshiftRight]
  rfl
theorem pk_shrN {n : Nat} (h : n < 2 ^ 31) (s : Int32) (k : Nat) (hs : (s.toBitVec.smod 32).toNat = k) : nI n >>> s = nI (n / 2 ^ k) := by
  apply Int32.toInt_inj.mp
  have h2 : n / 2 ^ k ≤ n := Nat.div_le_self _ _
  rw [pk_shr _ _ k hs, nI_toInt h, nI_toInt (by omega), Int.shiftRight_eq_div_pow]
  rfl
theorem s_l : ∀ n, n < 32 → ((nI n &&& 31).toBitVec.smod 32).toNat = n := by decide +kernel
end
section
/-! ===== numbers by their bits ===== -/
theorem kb_m1 : (-1 : Int32).toBitVec = BitVec.allOnes 32 := by decide
theorem kb_and (a b : Nat) : nI a &&& nI b = nI (a &&& b) := by
  apply Int32.toBitVec_inj.1
  show BitVec.ofNat 32 a &&& BitVec.ofNat 32 b = BitVec.ofNat 32 (a &&& b)
  apply BitVec.eq_of_getLsbD_eq
  intro i hi
  simp [hi]
theorem kb_or (a b : Nat) : nI a ||| nI b = nI (a ||| b) := by
  apply Int32.toBitVec_inj.1
  show BitVec.ofNat 32 a ||| BitVec.ofNat 32 b = BitVec.ofNat 32 (a ||| b)
  apply BitVec.eq_of_getLsbD_eq
  intro i hi
  simp [hi]
theorem kb_xor (a b : Nat) : nI a ^^^ nI b = nI (a ^^^ b) := by
  apply Int32.toBitVec_inj.1
  show BitVec.ofNat 32 a ^^^ BitVec.ofNat 32 b = BitVec.ofNat 32 (a ^^^ b)
  apply BitVec.eq_of_getLsbD_eq
  intro i hi
  simp [hi]
theorem kb_andn (a b : Nat) : nI a &&& (nI b ^^^ (-1)) = nI (a ^^^ (a &&& b)) := by
  apply Int32.toBitVec_inj.1
  rw [Int32.toBitVec_and, Int32.toBitVec_xor, kb_m1]
  show BitVec.ofNat 32 a &&& (BitVec.ofNat 32 b ^^^ BitVec.allOnes 32) = BitVec.ofNat 32 (a ^^^ (a &&& b))
  apply BitVec.eq_of_getLsbD_eq
  intro i hi
  rw [BitVec.getLsbD_and, BitVec.getLsbD_xor, BitVec.getLsbD_ofNat, BitVec.getLsbD_ofNat, BitVec.getLsbD_ofNat, BitVec.getLsbD_allOnes, Nat.testBit_xor, Nat.testBit_and]
  simp only [hi, decide_true, Bool.true_and]
  cases a.testBit i <;> cases b.testBit i <;> rfl
theorem kb_nOf (x : Int32) : ∃ n : Nat, x = nI n := by
  refine ⟨x.toBitVec.toNat, ?_⟩
  apply Int32.toBitVec_inj.1
  show x.toBitVec = BitVec.ofNat 32 x.toBitVec.toNat
  simp
theorem kb_63 : (63 : Int32) = nI 63 := by decide
theorem kb_n63 (n : Nat) : n &&& 63 = n % 64 := Nat.and_two_pow_sub_one_eq_mod n 6
theorem kb_hi {n k : Nat} (h : n < 64) (hk : 6 ≤ k) : n.testBit k = false := by
  apply Nat.testBit_lt_two_pow
  exact Nat.lt_of_lt_of_le h (Nat.pow_le_pow_right (n := 2) (by omega) hk)
theorem kb_lt {n : Nat} (h : ∀ k, 6 ≤ k → n.testBit k = false) : n < 64 := Nat.lt_pow_two_of_testBit (n := 6) n h
theorem kb_ext {a b : Nat} (ha : a < 64) (hb : b < 64) (h : ∀ k, k < 6 → a.testBit k = b.testBit k) : a = b := by
  apply Nat.eq_of_testBit_eq
  intro k
  rcases Nat.lt_or_ge k 6 with z | z
  · exact h k z
  · rw [kb_hi ha z, kb_hi hb z]
theorem kb_and_lt {a b : Nat} (hb : b < 64) : a &&& b < 64 := Nat.and_lt_two_pow (n := 6) a hb
theorem kb_or_lt {a b : Nat} (ha : a < 64) (hb : b < 64) : a ||| b < 64 := Nat.or_lt_two_pow (n := 6) ha hb
theorem kb_xor_lt {a b : Nat} (ha : a < 64) (hb : b < 64) : a ^^^ b < 64 := Nat.xor_lt_two_pow (n := 6) ha hb
theorem kb_an_lt {a b : Nat} (ha : a < 64) : a ^^^ (a &&& b) < 64 := by
  apply kb_lt
  intro k hk
  rw [Nat.testBit_xor, Nat.testBit_and, kb_hi ha hk]
  rfl
/-! ===== patterns ===== -/
/-- x stands for the pattern -/
def kb_st (v m x : Nat) : Prop := x ^^^ (x &&& m) = v
def kb_ok (v m : Nat) : Prop := v < 64 ∧ m < 64 ∧ v &&& m = 0
theorem kb_st_bit {v m x : Nat} (h : kb_st v m x) (k : Nat) : v.testBit k = (x.testBit k && !m.testBit k) := by
  unfold kb_st at h
  rw [← h, Nat.testBit_xor, Nat.testBit_and]
  cases x.testBit k <;> cases m.testBit k <;> rfl
theorem kb_st_of {v m x : Nat} (h : ∀ k, v.testBit k = (x.testBit k && !m.testBit k)) : kb_st v m x := by
  unfold kb_st
  apply Nat.eq_of_testBit_eq
  intro k
  rw [h k, Nat.testBit_xor, Nat.testBit_and]
  cases x.testBit k <;> cases m.testBit k <;> rfl
theorem kb_st_of6 {v m x : Nat} (hv : v < 64) (hx : x < 64) (h : ∀ k, k < 6 → v.testBit k = (x.testBit k && !m.testBit k)) : kb_st v m x := by
  apply kb_st_of
  intro k
  rcases Nat.lt_or_ge k 6 with z | z
  · exact h k z
  · rw [kb_hi hv z, kb_hi hx z]; rfl
theorem kb_ok_bit {v m : Nat} (h : kb_ok v m) (k : Nat) : (v.testBit k && m.testBit k) = false := by
  rw [← Nat.testBit_and, h.2.2, Nat.zero_testBit]
theorem kb_ok_of {v m : Nat} (hv : v < 64) (hm : m < 64) (h : ∀ k, k < 6 → (v.testBit k && m.testBit k) = false) : kb_ok v m := by
  refine ⟨hv, hm, ?_⟩
  apply kb_ext (kb_and_lt hm) (by omega)
  intro k hk
  rw [Nat.testBit_and, h k hk, Nat.zero_testBit]
theorem kb_ok0 : kb_ok 0 0 := by unfold kb_ok; decide
/-- where the mask is off, a number that stands has the value's bit -/
theorem kb_st_off {v m x k : Nat} (h : kb_st v m x) (hm : m.testBit k = false) : x.testBit k = v.testBit k := by
  have e := kb_st_bit h k
  rw [hm] at e
  rw [e]
  cases x.testBit k <;> rfl
theorem kb_ok_on {v m k : Nat} (h : kb_ok v m) (hm : m.testBit k = true) : v.testBit k = false := by
  have e := kb_ok_bit h k
  rw [hm] at e
  revert e
  cases v.testBit k <;> simp
theorem kb_st_v {v m : Nat} (h : kb_ok v m) : kb_st v m v := by
  apply kb_st_of
  intro k
  have e := kb_ok_bit h k
  revert e
  cases v.testBit k <;> cases m.testBit k <;> simp
theorem kb_st_vm {v m : Nat} (h : kb_ok v m) : kb_st v m (v ||| m) := by
  apply kb_st_of
  intro k
  have e := kb_ok_bit h k
  rw [Nat.testBit_or]
  revert e
  cases v.testBit k <;> cases m.testBit k <;> simp
theorem kb_st_flip {v m x k : Nat} (h : kb_st v m x) (hm : m.testBit k = true) : kb_st v m (x ^^^ 2 ^ k) := by
  apply kb_st_of
  intro j
  have e := kb_st_bit h j
  rw [Nat.testBit_xor, Nat.testBit_two_pow]
  rcases Nat.decEq k j with z | z
  · rw [e, decide_eq_false z]
    cases x.testBit j <;> rfl
  · subst z
    rw [e, hm]
    simp
theorem kb_flip_lt {x k : Nat} (hx : x < 64) (hk : k < 6) : x ^^^ 2 ^ k < 64 := by
  apply kb_xor_lt hx
  exact Nat.pow_lt_pow_right (a := 2) (n := 6) (by omega) hk
theorem kb_flip_bit (x k : Nat) : (x ^^^ 2 ^ k).testBit k = !x.testBit k := by
  rw [Nat.testBit_xor, Nat.testBit_two_pow_self]
  cases x.testBit k <;> rfl
theorem kb_st_ge {v m x : Nat} (h : kb_st v m x) : v ≤ x := by
  apply Nat.le_of_testBit
  intro i hi
  rw [kb_st_bit h i] at hi
  revert hi
  cases x.testBit i <;> simp
theorem kb_st_le {v m x : Nat} (h : kb_st v m x) : x ≤ v ||| m := by
  apply Nat.le_of_testBit
  intro i hi
  rw [Nat.testBit_or, kb_st_bit h i, hi]
  cases m.testBit i <;> rfl
/-! ===== the least pattern of a set ===== -/
def kb_best (P : Nat → Prop) (v m : Nat) : Prop := v < 64 ∧ m < 64 ∧ (∃ n, n < 64 ∧ P n) ∧ ∀ k, k < 6 → (m.testBit k = false → ∀ n, n < 64 → P n → n.testBit k = v.testBit k) ∧ (m.testBit k = true → v.testBit k = false ∧ ∃ n n', n < 64 ∧ n' < 64 ∧ P n ∧ P n' ∧ n.testBit k ≠ n'.testBit k)
theorem kb_best_ok {P : Nat → Prop} {v m : Nat} (h : kb_best P v m) : kb_ok v m := by
  apply kb_ok_of h.1 h.2.1
  intro k hk
  have e := (h.2.2.2 k hk).2
  cases z : m.testBit k
  · cases v.testBit k <;> rfl
  · rw [(e z).1]; rfl
theorem kb_best_congr {P Q : Nat → Prop} {v m : Nat} (e : ∀ n, n < 64 → (P n ↔ Q n)) (h : kb_best P v m) : kb_best Q v m := by
  obtain ⟨h1, h2, ⟨n0, l0, p0⟩, h4⟩ := h
  refine ⟨h1, h2, ⟨n0, l0, (e n0 l0).1 p0⟩, fun k hk => ⟨fun z n hn q => (h4 k hk).1 z n hn ((e n hn).2 q), fun z => ?_⟩⟩
  obtain ⟨a, n, n', l, l', p, p', d⟩ := (h4 k hk).2 z
  exact ⟨a, n, n', l, l', (e n l).1 p, (e n' l').1 p', d⟩
theorem kb_best_uniq {P : Nat → Prop} {v m v' m' : Nat} (h : kb_best P v m) (h' : kb_best P v' m') : v = v' ∧ m = m' := by
  obtain ⟨h1, h2, ⟨n0, l0, p0⟩, h4⟩ := h
  obtain ⟨g1, g2, _, g4⟩ := h'
  have em : m = m' := by
    apply kb_ext h2 g2
    intro k hk
    cases z : m.testBit k <;> cases z' : m'.testBit k
    · rfl
    · obtain ⟨_, n, n', l, l', p, p', d⟩ := (g4 k hk).2 z'
      exact absurd (((h4 k hk).1 z n l p).trans ((h4 k hk).1 z n' l' p').symm) d
    · obtain ⟨_, n, n', l, l', p, p', d⟩ := (h4 k hk).2 z
      exact absurd (((g4 k hk).1 z' n l p).trans ((g4 k hk).1 z' n' l' p').symm) d
    · rfl
  refine ⟨?_, em⟩
  subst em
  apply kb_ext h1 g1
  intro k hk
  cases z : m.testBit k
  · rw [← (h4 k hk).1 z n0 l0 p0, ← (g4 k hk).1 z n0 l0 p0]
  · rw [((h4 k hk).2 z).1, ((g4 k hk).2 z).1]
/-- the numbers of a pattern have it as their least -/
theorem kb_best_self {v m : Nat} (h : kb_ok v m) : kb_best (kb_st v m) v m := by
  refine ⟨h.1, h.2.1, ⟨v, h.1, kb_st_v h⟩, fun k hk => ⟨fun z n _ q => kb_st_off q z, fun z => ⟨kb_ok_on h z, v, v ^^^ 2 ^ k, h.1, kb_flip_lt h.1 hk, kb_st_v h, kb_st_flip (kb_st_v h) z, ?_⟩⟩⟩
  rw [kb_flip_bit]
  cases v.testBit k <;> simp
/-! ===== arrays ===== -/
theorem kb_us {f : Nat → Int32} {k : Nat} {x : Int32} : upd f k x k = x := if_pos rfl
theorem kb_un {f : Nat → Int32} {k j : Nat} {x : Int32} (h : j ≠ k) : upd f k x j = f j := if_neg h
theorem kb_uu {f : Nat → Int32} {k : Nat} {x : Int32} (h : f k = x) : upd f k x = f := by
  funext j
  by_cases z : j = k
  · subst z; rw [kb_us, h]
  · rw [kb_un z]
theorem kb_uc {f : Nat → Int32} {i j : Nat} {x y : Int32} (h : i ≠ j) : upd (upd f i x) j y = upd (upd f j y) i x := by
  funext q
  by_cases z : q = i
  · subst z; rw [kb_un h, kb_us, kb_us]
  · by_cases w : q = j
    · subst w; rw [kb_us, kb_un z, kb_us]
    · rw [kb_un w, kb_un z, kb_un z, kb_un w]
/-! ===== a long as a set of numbers ===== -/
def kb_mb (s : Int64) (n : Nat) : Prop := s.toBitVec.getLsbD n = true
theorem kb_mb_or (s t : Int64) (n : Nat) : kb_mb (s ||| t) n ↔ kb_mb s n ∨ kb_mb t n := by
  unfold kb_mb
  rw [Int64.toBitVec_or, BitVec.getLsbD_or, Bool.or_eq_true]
theorem kb_mb_0 (n : Nat) : ¬ kb_mb 0 n := by
  unfold kb_mb
  show ¬ (0#64).getLsbD n = true
  rw [BitVec.getLsbD_zero]
  simp
theorem kb_sh1 : ∀ j, j < 64 → ((1 : Int64) <<< ((nI j).toInt64 &&& 63)).toBitVec = BitVec.twoPow 64 j := by decide +kernel
theorem kb_mb_1 {j n : Nat} (hj : j < 64) : kb_mb ((1 : Int64) <<< ((nI j).toInt64 &&& 63)) n ↔ n = j := by
  unfold kb_mb
  rw [kb_sh1 j hj, BitVec.getLsbD_twoPow]
  simp [hj]
  exact eq_comm
theorem kb_shc : ∀ n, n < 64 → (((nI n).toInt64 &&& 63).toBitVec.smod 64).toNat = n := by decide +kernel
theorem kb_mb_t (s : Int64) {n : Nat} (hn : n < 64) : ((s >>> ((nI n).toInt64 &&& 63)) &&& 1) = 1 ↔ kb_mb s n := by
  unfold kb_mb
  have e : (s >>> ((nI n).toInt64 &&& 63)).toBitVec = s.toBitVec.sshiftRight n := by
    rw [Int64.toBitVec_shiftRight]
    show s.toBitVec.sshiftRight (((nI n).toInt64 &&& 63).toBitVec.smod 64).toNat = _
    rw [kb_shc n hn]
  rw [← Int64.toBitVec_inj, Int64.toBitVec_and, e]
  show (s.toBitVec.sshiftRight n &&& 1#64) = 1#64 ↔ _
  rw [BitVec.and_one_eq_setWidth_ofBool_getLsbD, BitVec.getLsbD_sshiftRight]
  simp only [Nat.add_zero, hn, if_true]
  cases s.toBitVec.getLsbD n <;> decide
end
section
/-! ===== registers and small words ===== -/
def kb_reg (p : Int32) : Prop := ∃ r, r < 6 ∧ p = nI r
theorem kb_in {r : Nat} (h : r < 6) : vp_in (nI r) 6 := vp_in_nI h (by omega)
theorem kb_cl {r : Nat} (h : r < 6) : (nI r).toNatClampNeg = r := nI_clamp (by omega)
theorem kb_reg_iff (p : Int32) : kb_reg p ↔ ¬ p < 0 ∧ p ≤ 5 := by
  constructor
  · rintro ⟨r, h, rfl⟩
    exact ⟨nI_pos (by omega), nI_le (b := 5) (by omega) (by omega)⟩
  · rintro ⟨h0, h5⟩
    obtain ⟨j, h, e⟩ := nI_of2 (n := 5) (by decide) h0 h5
    exact ⟨j, by omega, e⟩
theorem kb_Xreg {A B : Prop} {p : Int32} (h : kb_reg p → B) (g : ¬ kb_reg p → A) : wpX_isRegister (fun r => (r = 0 → A) ∧ (¬ r = 0 → B)) p := by
  unfold wpX_isRegister
  refine br_c (fun h0 => br_t rfl (g fun z => ((kb_reg_iff p).1 z).1 h0)) (fun h0 => br_c (fun h5 => br_t rfl (g fun z => ?_)) (fun h5 => br_f (by decide) (h ((kb_reg_iff p).2 ⟨h0, Int32.not_lt.mp h5⟩))))
  exact Int32.not_lt.mpr ((kb_reg_iff p).1 z).2 h5
theorem kb_Yreg {A B : Prop} {p : Int32} (h : kb_reg p → B) (g : ¬ kb_reg p → A) : wpY_bad (fun r => (r = 0 → B) ∧ (¬ r = 0 → A)) p := by
  unfold wpY_bad
  refine br_c (fun h0 => br_f (by decide) (g fun z => ((kb_reg_iff p).1 z).1 h0)) (fun h0 => br_c (fun h5 => br_t rfl (h ((kb_reg_iff p).2 ⟨h0, h5⟩))) (fun h5 => br_f (by decide) (g fun z => h5 ((kb_reg_iff p).1 z).2)))
theorem kb_nlt {n : Nat} {x : Int32} (h : n < 2 ^ 31) : nI n < x ↔ (n : Int) < x.toInt := by
  rw [Int32.lt_iff_toInt_lt, nI_toInt h]
theorem kb_xlt {n : Nat} {x : Int32} (h : n < 2 ^ 31) : x < nI n ↔ x.toInt < (n : Int) := by
  rw [Int32.lt_iff_toInt_lt, nI_toInt h]
theorem kb_nle {n : Nat} {x : Int32} (h : n < 2 ^ 31) : nI n ≤ x ↔ (n : Int) ≤ x.toInt := by
  rw [Int32.le_iff_toInt_le, nI_toInt h]
theorem kb_xle {n : Nat} {x : Int32} (h : n < 2 ^ 31) : x ≤ nI n ↔ x.toInt ≤ (n : Int) := by
  rw [Int32.le_iff_toInt_le, nI_toInt h]
/-! ===== the reference: stands, keep ===== -/
theorem kb_Ystands {post : Int32 → Prop} {a b : Nat → Int32} {r v m x : Nat} (hr : r < 6) (ha : a r = nI v) (hb : b r = nI m) (hv : v < 64) (hx : x < 64) (h1 : kb_st v m x → post 1) (h0 : ¬ kb_st v m x → post 0) : wpY_stands post (a, b) (nI r) (nI x) := by
  unfold wpY_stands
  dsimp only
  rw [kb_cl hr, ha, hb, kb_andn]
  have l := kb_an_lt (b := m) hx
  have e : nI (x ^^^ (x &&& m)) = nI v ↔ kb_st v m x := nI_eq (by omega) (by omega)
  exact ⟨kb_in hr, kb_in hr, fun h => h1 (e.1 h), fun h => h0 (fun z => h (e.2 z))⟩
theorem kb_64t : (64 : Int32) ≤ nI 64 := by decide
theorem kb_64f {i : Nat} (h : i < 64) : ¬ (64 : Int32) ≤ nI i := nI_ge (b := 64) h (by omega)
theorem kb_Yk_found {post : Int32 → SY → Prop} {a b : Nat → Int32} {r f v m : Nat} {s : Int64} (hr : r < 6) (hf : f < 64) (pf : kb_mb s f) (B : kb_best (kb_mb s) v m) (hp : post 0 (upd a r (nI v), upd b r (nI m))) : ∀ n i d, i ≤ 64 → 64 - i < n → d < 64 → (∀ k, k < 6 → (d.testBit k = true ↔ ∃ j, j < i ∧ kb_mb s j ∧ j.testBit k ≠ f.testBit k)) → wY_keep_9 post (nI r) s a b n (nI f) (nI d) (nI i) := by
  intro n
  induction n with
  | zero => intro i d _ h; omega
  | succ n ih =>
    intro i d hi hn hd hs
    have f0 : (0 : Int32) ≤ nI f := nI_pos' (by omega)
    rcases Nat.lt_or_ge i 64 with z | z
    · refine br_f (kb_64f z) ?_
      by_cases P : kb_mb s i
      · refine br_t ((kb_mb_t s z).2 P) (br_t f0 ?_)
        unfold wY_keep_36
        refine nm_r (e' := nI (d ||| (i ^^^ f))) (by rw [kb_xor, kb_or]) (nm_r (nI_1 i) ?_)
        refine ih (i + 1) _ (by omega) (by omega) (kb_or_lt hd (kb_xor_lt z hf)) ?_
        intro k hk
        rw [Nat.testBit_or, Nat.testBit_xor, Bool.or_eq_true, hs k hk]
        constructor
        · rintro (⟨j, l, p, e⟩ | e)
          · exact ⟨j, by omega, p, e⟩
          · exact ⟨i, by omega, P, by intro y; rw [y] at e; simp at e⟩
        · rintro ⟨j, l, p, e⟩
          rcases Nat.lt_or_ge j i with y | y
          · exact .inl ⟨j, y, p, e⟩
          · have : j = i := by omega
            subst this
            right
            revert e
            cases j.testBit k <;> cases f.testBit k <;> simp
      · refine br_f (fun y => P ((kb_mb_t s z).1 y)) (nm_r (nI_1 i) ?_)
        refine ih (i + 1) d (by omega) (by omega) hd ?_
        intro k hk
        rw [hs k hk]
        constructor
        · rintro ⟨j, l, p, e⟩
          exact ⟨j, by omega, p, e⟩
        · rintro ⟨j, l, p, e⟩
          refine ⟨j, ?_, p, e⟩
          rcases Nat.lt_or_ge j i with y | y
          · exact y
          · have : j = i := by omega
            subst this
            exact absurd p P
    · have : i = 64 := by omega
      subst this
      obtain ⟨h1, h2, _, h4⟩ := B
      have em : d = m := by
        apply kb_ext hd h2
        intro k hk
        cases zm : m.testBit k
        · cases zd : d.testBit k
          · rfl
          · obtain ⟨j, l, p, e⟩ := (hs k hk).1 zd
            exact absurd (((h4 k hk).1 zm j l p).trans ((h4 k hk).1 zm f hf pf).symm) e
        · apply (hs k hk).2
          obtain ⟨_, q, q', l, l', p, p', e⟩ := (h4 k hk).2 zm
          by_cases y : q.testBit k = f.testBit k
          · exact ⟨q', l', p', fun y' => e (y.trans y'.symm)⟩
          · exact ⟨q, l, p, y⟩
      subst em
      have ev : f ^^^ (f &&& d) = v := by
        apply kb_ext (kb_an_lt hf) h1
        intro k hk
        rw [Nat.testBit_xor, Nat.testBit_and]
        cases zm : d.testBit k
        · rw [← (h4 k hk).1 zm f hf pf]
          cases f.testBit k <;> rfl
        · rw [((h4 k hk).2 zm).1]
          cases f.testBit k <;> rfl
      refine br_t kb_64t (br_t f0 ⟨kb_in hr, nm_e ⟨kb_in hr, nm_e ?_⟩⟩)
      rw [kb_cl hr, kb_andn, ev]
      exact hp
theorem kb_Ykeep {post : Int32 → SY → Prop} {a b : Nat → Int32} {r : Nat} {s : Int64} (hr : r < 6) (hc : ((∀ n, n < 64 → ¬ kb_mb s n) ∧ post (-2) (a, b)) ∨ ∃ v m, kb_best (kb_mb s) v m ∧ post 0 (upd a r (nI v), upd b r (nI m))) : wpY_keep post (a, b) (nI r) s := by
  have L : ∀ n i, i ≤ 64 → 64 - i < n → (∀ j, j < i → ¬ kb_mb s j) → wY_keep_9 post (nI r) s a b n (-1) 0 (nI i) := by
    intro n
    induction n with
    | zero => intro i _ h; omega
    | succ n ih =>
      intro i hi hn hs
      rcases Nat.lt_or_ge i 64 with z | z
      · refine br_f (kb_64f z) ?_
        by_cases P : kb_mb s i
        · refine br_t ((kb_mb_t s z).2 P) (br_f (by decide) ?_)
          unfold wY_keep_36
          refine nm_r (e' := nI 0) (by rw [kb_xor, Nat.xor_self]; decide) (nm_r (nI_1 i) ?_)
          rcases hc with ⟨hc, _⟩ | ⟨v, m, B, hp⟩
          · exact absurd P (hc i z)
          · refine kb_Yk_found hr z P B hp n (i + 1) 0 (by omega) (by omega) (by omega) ?_
            intro k _
            rw [Nat.zero_testBit]
            constructor
            · intro y; cases y
            · rintro ⟨j, l, p, e⟩
              rcases Nat.lt_or_ge j i with y | y
              · exact absurd p (hs j y)
              · have : j = i := by omega
                subst this
                exact absurd rfl e
        · refine br_f (fun y => P ((kb_mb_t s z).1 y)) (nm_r (nI_1 i) ?_)
          refine ih (i + 1) (by omega) (by omega) ?_
          intro j l
          rcases Nat.lt_or_ge j i with y | y
          · exact hs j y
          · have : j = i := by omega
            subst this
            exact P
      · have : i = 64 := by omega
        subst this
        refine br_t kb_64t (br_f (by decide) ?_)
        rcases hc with ⟨_, hp⟩ | ⟨v, m, ⟨_, _, ⟨q, l, p⟩, _⟩, _⟩
        · exact hp
        · exact absurd p (hs q l)
  show ∃ n9 : Nat, wY_keep_9 post (nI r) s a b n9 (-1) 0 0
  exact ⟨65, L 65 0 (by omega) (by omega) (fun j h => absurd h (by omega))⟩
end
section
/-! ===== the reference: combine ===== -/
/-- the set that combine gathers -/
def kb_S (va ma vb mb : Nat) (R : Nat → Nat → Nat → Prop) (q : Nat) : Prop := ∃ x y, x < 64 ∧ y < 64 ∧ kb_st va ma x ∧ kb_st vb mb y ∧ R x y q
theorem kb_Yc50 {post : Int32 → SY → Prop} {J : Int64 → Int32 → Prop} {a b : Nat → Int32} {d K : Int32} {ra rb va ma vb mb x : Nat} {R : Nat → Nat → Nat → Prop} (hra : ra < 6) (hrb : rb < 6) (a1 : a ra = nI va) (b1 : b ra = nI ma) (a2 : a rb = nI vb) (b2 : b rb = nI mb) (ok1 : kb_ok va ma) (ok2 : kb_ok vb mb) (hx : x < 64)
    (hR : ∀ x y, x < 64 → y < 64 → ∀ P : Int64 → Prop, (∀ t, (∀ q, q < 64 → (kb_mb t q ↔ R x y q)) → P t) → wpY_results P (a, b) K (nI x) (nI y) (nI rb)) :
    ∀ n y s, y ≤ 64 → 64 - y < n → (∀ s', (∀ q, q < 64 → (kb_mb s' q ↔ (kb_mb s q ∨ ∃ y', y ≤ y' ∧ y' < 64 ∧ kb_st va ma x ∧ kb_st vb mb y' ∧ R x y' q))) → J s' (nI (x + 1))) → wY_combine_50 post J d K (nI ra) (nI rb) (nI x) a b n s (nI y) := by
  intro n
  induction n with
  | zero => intro y s _ h; omega
  | succ n ih =>
    intro y s hy hn hJ
    rcases Nat.lt_or_ge y 64 with z | z
    · refine br_f (kb_64f z) ?_
      have skip : ¬ (kb_st va ma x ∧ kb_st vb mb y) → wY_combine_50 post J d K (nI ra) (nI rb) (nI x) a b n s (nI (y + 1)) := by
        intro no
        refine ih (y + 1) s (by omega) (by omega) (fun s' hs => hJ s' fun q hq => ?_)
        rw [hs q hq]
        constructor
        · rintro (h | ⟨y', l, l', h1, h2, h3⟩)
          · exact .inl h
          · exact .inr ⟨y', by omega, l', h1, h2, h3⟩
        · rintro (h | ⟨y', l, l', h1, h2, h3⟩)
          · exact .inl h
          · refine .inr ⟨y', ?_, l', h1, h2, h3⟩
            rcases Nat.lt_or_ge y y' with w | w
            · exact w
            · have : y' = y := by omega
              subst this
              exact absurd ⟨h1, h2⟩ no
      refine kb_Ystands hra a1 b1 ok1.1 hx (fun s1 => ?_) (fun s1 => ?_)
      · refine br_f (by decide) ?_
        refine kb_Ystands hrb a2 b2 ok2.1 z (fun s2 => ?_) (fun s2 => ?_)
        · refine br_f (by decide) ?_
          refine hR x y hx z _ (fun t ht => ?_)
          refine nm_e (nm_r (nI_1 y) ?_)
          refine ih (y + 1) _ (by omega) (by omega) (fun s' hs => hJ s' fun q hq => ?_)
          rw [hs q hq, kb_mb_or, ht q hq]
          constructor
          · rintro ((h | h) | ⟨y', l, l', h1, h2, h3⟩)
            · exact .inl h
            · exact .inr ⟨y, by omega, z, s1, s2, h⟩
            · exact .inr ⟨y', by omega, l', h1, h2, h3⟩
          · rintro (h | ⟨y', l, l', h1, h2, h3⟩)
            · exact .inl (.inl h)
            · rcases Nat.lt_or_ge y y' with w | w
              · exact .inr ⟨y', w, l', h1, h2, h3⟩
              · have : y' = y := by omega
                subst this
                exact .inl (.inr h3)
        · exact br_t rfl (nm_r (nI_1 y) (skip fun h => s2 h.2))
      · exact br_t rfl (nm_r (nI_1 y) (skip fun h => s1 h.1))
    · have : y = 64 := by omega
      subst this
      refine br_t kb_64t (nm_r (nI_1 x) (hJ s fun q hq => ?_))
      constructor
      · exact .inl
      · rintro (h | ⟨y', l, l', _⟩)
        · exact h
        · omega
theorem kb_Yc40 {post : Int32 → SY → Prop} {a b : Nat → Int32} {K : Int32} {d ra rb va ma vb mb : Nat} {R : Nat → Nat → Nat → Prop} (hd : d < 6) (hra : ra < 6) (hrb : rb < 6) (a1 : a ra = nI va) (b1 : b ra = nI ma) (a2 : a rb = nI vb) (b2 : b rb = nI mb) (ok1 : kb_ok va ma) (ok2 : kb_ok vb mb)
    (hR : ∀ x y, x < 64 → y < 64 → ∀ P : Int64 → Prop, (∀ t, (∀ q, q < 64 → (kb_mb t q ↔ R x y q)) → P t) → wpY_results P (a, b) K (nI x) (nI y) (nI rb)) :
    ∀ n x s, x ≤ 64 → 64 - x < n → (∀ s', (∀ q, q < 64 → (kb_mb s' q ↔ (kb_mb s q ∨ ∃ x' y', x ≤ x' ∧ x' < 64 ∧ y' < 64 ∧ kb_st va ma x' ∧ kb_st vb mb y' ∧ R x' y' q))) → ((∀ n, n < 64 → ¬ kb_mb s' n) ∧ post (-2) (a, b)) ∨ ∃ v m, kb_best (kb_mb s') v m ∧ post 0 (upd a d (nI v), upd b d (nI m))) → wY_combine_40 post (nI d) K (nI ra) (nI rb) a b n s (nI x) := by
  intro n
  induction n with
  | zero => intro y s _ h; omega
  | succ n ih =>
    intro x s hx hn hJ
    rcases Nat.lt_or_ge x 64 with z | z
    · refine br_f (kb_64f z) ⟨65, ?_⟩
      refine kb_Yc50 hra hrb a1 b1 a2 b2 ok1 ok2 z hR 65 0 s (by omega) (by omega) (fun s1 h1 => ?_)
      refine ih (x + 1) s1 (by omega) (by omega) (fun s' hs => hJ s' fun q hq => ?_)
      rw [hs q hq, h1 q hq]
      constructor
      · rintro ((h | ⟨y', l, l', g1, g2, g3⟩) | ⟨x', y', l, l', l2, g1, g2, g3⟩)
        · exact .inl h
        · exact .inr ⟨x, y', by omega, z, l', g1, g2, g3⟩
        · exact .inr ⟨x', y', by omega, l', l2, g1, g2, g3⟩
      · rintro (h | ⟨x', y', l, l', l2, g1, g2, g3⟩)
        · exact .inl (.inl h)
        · rcases Nat.lt_or_ge x x' with w | w
          · exact .inr ⟨x', y', w, l', l2, g1, g2, g3⟩
          · have : x' = x := by omega
            subst this
            exact .inl (.inr ⟨y', by omega, l2, g1, g2, g3⟩)
    · have : x = 64 := by omega
      subst this
      refine br_t kb_64t ?_
      refine kb_Ykeep hd ?_
      refine hJ s fun q hq => ?_
      constructor
      · exact .inl
      · rintro (h | ⟨x', y', l, l', _⟩)
        · exact h
        · omega
def kb_Vc (p0 p1 p2 p3 : Int32) : Prop := kb_reg p0 ∧ kb_reg p2 ∧ kb_reg p3 ∧ ¬ p1 < 0 ∧ p1 ≤ 6
theorem kb_Ycombine_bad {post : Int32 → SY → Prop} {a b : Nat → Int32} {p0 p1 p2 p3 : Int32} (h : ¬ kb_Vc p0 p1 p2 p3) (hp : post (-1) (a, b)) : wpY_combine post (a, b) p0 p1 p2 p3 := by
  unfold wpY_combine
  exact kb_Yreg (fun h0 => kb_Yreg (fun h2 => kb_Yreg (fun h3 => br_c (fun _ => hp) (fun h1 => br_c (fun h6 => absurd ⟨h0, h2, h3, h1, h6⟩ h) (fun _ => hp))) (fun _ => hp)) (fun _ => hp)) (fun _ => hp)
theorem kb_Ycombine {post : Int32 → SY → Prop} {a b : Nat → Int32} {K : Int32} {d ra rb va ma vb mb : Nat} {R : Nat → Nat → Nat → Prop} (hd : d < 6) (hra : ra < 6) (hrb : rb < 6) (hK : ¬ K < 0) (hK6 : K ≤ 6) (a1 : a ra = nI va) (b1 : b ra = nI ma) (a2 : a rb = nI vb) (b2 : b rb = nI mb) (ok1 : kb_ok va ma) (ok2 : kb_ok vb mb)
    (hR : ∀ x y, x < 64 → y < 64 → ∀ P : Int64 → Prop, (∀ t, (∀ q, q < 64 → (kb_mb t q ↔ R x y q)) → P t) → wpY_results P (a, b) K (nI x) (nI y) (nI rb))
    (hc : ((∀ q, q < 64 → ¬ kb_S va ma vb mb R q) ∧ post (-2) (a, b)) ∨ ∃ v m, kb_best (kb_S va ma vb mb R) v m ∧ post 0 (upd a d (nI v), upd b d (nI m))) : wpY_combine post (a, b) (nI d) K (nI ra) (nI rb) := by
  unfold wpY_combine
  refine kb_Yreg (fun _ => kb_Yreg (fun _ => kb_Yreg (fun _ => br_f hK (br_t hK6 ⟨65, ?_⟩)) (fun z => absurd ⟨rb, hrb, rfl⟩ z)) (fun z => absurd ⟨ra, hra, rfl⟩ z)) (fun z => absurd ⟨d, hd, rfl⟩ z)
  refine kb_Yc40 hd hra hrb a1 b1 a2 b2 ok1 ok2 hR 65 0 0 (by omega) (by omega) (fun s' hs => ?_)
  have e : ∀ q, q < 64 → (kb_S va ma vb mb R q ↔ kb_mb s' q) := by
    intro q hq
    rw [hs q hq]
    constructor
    · rintro ⟨x, y, l1, l2, g1, g2, g3⟩
      exact .inr ⟨x, y, by omega, l1, l2, g1, g2, g3⟩
    · rintro (h | ⟨x, y, _, l1, l2, g1, g2, g3⟩)
      · exact absurd h (kb_mb_0 q)
      · exact ⟨x, y, l1, l2, g1, g2, g3⟩
  rcases hc with ⟨h, hp⟩ | ⟨v, m, B, hp⟩
  · exact .inl ⟨fun q hq z => h q hq ((e q hq).2 z), hp⟩
  · exact .inr ⟨v, m, kb_best_congr e B, hp⟩
/-! the results of a pair, kind by kind -/
theorem kb_R0 {a b : Nat → Int32} {rb : Int32} (x y : Nat) (hx : x < 64) (hy : y < 64) (P : Int64 → Prop) (h : ∀ t, (∀ q, q < 64 → (kb_mb t q ↔ q = (x + y) % 64)) → P t) : wpY_results P (a, b) 0 (nI x) (nI y) rb := by
  unfold wpY_results
  refine br_t rfl (h _ fun q _ => ?_)
  rw [nI_add, kb_63, kb_and, kb_n63]
  exact kb_mb_1 (by omega)
theorem kb_R1 {a b : Nat → Int32} {rb : Int32} (x y : Nat) (hx : x < 64) (hy : y < 64) (P : Int64 → Prop) (h : ∀ t, (∀ q, q < 64 → (kb_mb t q ↔ q = (x + 64 - y) % 64)) → P t) : wpY_results P (a, b) 1 (nI x) (nI y) rb := by
  unfold wpY_results
  refine br_f (by decide) (br_t rfl (h _ fun q _ => ?_))
  have e : nI x - nI y = nI (x + (4294967296 - y)) := by
    rw [← nI_add]
    apply Int32.toBitVec_inj.1
    rw [Int32.toBitVec_sub, Int32.toBitVec_add]
    show BitVec.ofNat 32 x - BitVec.ofNat 32 y = BitVec.ofNat 32 x + BitVec.ofNat 32 (4294967296 - y)
    rw [BitVec.sub_eq_add_neg]
    congr 1
    apply BitVec.eq_of_toNat_eq
    rw [BitVec.toNat_neg, BitVec.toNat_ofNat, BitVec.toNat_ofNat]
    omega
  rw [e, kb_63, kb_and, kb_n63]
  have e2 : (x + (4294967296 - y)) % 64 = (x + 64 - y) % 64 := by omega
  rw [e2]
  exact kb_mb_1 (by omega)
theorem kb_R2 {a b : Nat → Int32} {rb : Int32} (x y : Nat) (hx : x < 64) (hy : y < 64) (P : Int64 → Prop) (h : ∀ t, (∀ q, q < 64 → (kb_mb t q ↔ q = x &&& y)) → P t) : wpY_results P (a, b) 2 (nI x) (nI y) rb := by
  unfold wpY_results
  refine br_f (by decide) (br_f (by decide) (br_t rfl (h _ fun q _ => ?_)))
  rw [kb_and]
  exact kb_mb_1 (kb_and_lt hy)
theorem kb_R3 {a b : Nat → Int32} {rb : Int32} (x y : Nat) (hx : x < 64) (hy : y < 64) (P : Int64 → Prop) (h : ∀ t, (∀ q, q < 64 → (kb_mb t q ↔ q = x ||| y)) → P t) : wpY_results P (a, b) 3 (nI x) (nI y) rb := by
  unfold wpY_results
  refine br_f (by decide) (br_f (by decide) (br_f (by decide) (br_t rfl (h _ fun q _ => ?_))))
  rw [kb_or]
  exact kb_mb_1 (kb_or_lt hx hy)
theorem kb_R4 {a b : Nat → Int32} {rb : Int32} (x y : Nat) (hx : x < 64) (hy : y < 64) (P : Int64 → Prop) (h : ∀ t, (∀ q, q < 64 → (kb_mb t q ↔ q = x ^^^ y)) → P t) : wpY_results P (a, b) 4 (nI x) (nI y) rb := by
  unfold wpY_results
  refine br_f (by decide) (br_f (by decide) (br_f (by decide) (br_f (by decide) (br_t rfl (h _ fun q _ => ?_)))))
  rw [kb_xor]
  exact kb_mb_1 (kb_xor_lt hx hy)
theorem kb_R5 {a b : Nat → Int32} {rb : Int32} (x y : Nat) (hx : x < 64) (hy : y < 64) (P : Int64 → Prop) (h : ∀ t, (∀ q, q < 64 → (kb_mb t q ↔ (q = x ∨ q = y))) → P t) : wpY_results P (a, b) 5 (nI x) (nI y) rb := by
  unfold wpY_results
  refine br_f (by decide) (br_f (by decide) (br_f (by decide) (br_f (by decide) (br_f (by decide) (br_t rfl (h _ fun q _ => ?_))))))
  rw [kb_mb_or, kb_mb_1 hx, kb_mb_1 hy]
theorem kb_R6 {a b : Nat → Int32} {rb vb mb : Nat} (hrb : rb < 6) (a2 : a rb = nI vb) (b2 : b rb = nI mb) (hv : vb < 64) (x y : Nat) (hx : x < 64) (hy : y < 64) (P : Int64 → Prop) (h : ∀ t, (∀ q, q < 64 → (kb_mb t q ↔ (q = x ∧ kb_st vb mb x))) → P t) : wpY_results P (a, b) 6 (nI x) (nI y) (nI rb) := by
  unfold wpY_results
  refine br_f (by decide) (br_f (by decide) (br_f (by decide) (br_f (by decide) (br_f (by decide) (br_f (by decide) ?_)))))
  refine kb_Ystands hrb a2 b2 hv hx (fun s => br_f (by decide) (h _ fun q _ => ?_)) (fun s => br_t rfl (h _ fun q _ => ?_))
  · rw [kb_mb_1 hx]
    exact ⟨fun z => ⟨z, s⟩, fun z => z.1⟩
  · exact ⟨fun z => absurd z (kb_mb_0 q), fun z => absurd z.2 s⟩
end
section
/-! ===== the reference: suppose ===== -/
/-- a pair that both patterns and the condition allow -/
def kb_T (va ma vb mb : Nat) (H : Nat → Nat → Prop) (x y : Nat) : Prop := kb_st va ma x ∧ kb_st vb mb y ∧ H x y
theorem kb_Ys49 {post : Int32 → SY → Prop} {J : Int64 → Int64 → Int32 → Prop} {a b : Nat → Int32} {K : Int32} {ra rb va ma vb mb x : Nat} {H : Nat → Nat → Prop} (hra : ra < 6) (hrb : rb < 6) (a1 : a ra = nI va) (b1 : b ra = nI ma) (a2 : a rb = nI vb) (b2 : b rb = nI mb) (ok1 : kb_ok va ma) (ok2 : kb_ok vb mb) (hx : x < 64)
    (hH : ∀ x y, x < 64 → y < 64 → ∀ P : Int32 → Prop, (H x y → P 1) → (¬ H x y → P 0) → wpY_holds P (nI x) K (nI y)) :
    ∀ n y s t, y ≤ 64 → 64 - y < n → (∀ s' t', (∀ q, q < 64 → (kb_mb s' q ↔ (kb_mb s q ∨ (q = x ∧ ∃ y', y ≤ y' ∧ y' < 64 ∧ kb_T va ma vb mb H x y')))) → (∀ q, q < 64 → (kb_mb t' q ↔ (kb_mb t q ∨ (y ≤ q ∧ kb_T va ma vb mb H x q)))) → J s' t' (nI (x + 1))) → wY_suppose_49 post J (nI ra) K (nI rb) (nI x) a b n s t (nI y) := by
  intro n
  induction n with
  | zero => intro y s t _ h; omega
  | succ n ih =>
    intro y s t hy hn hJ
    rcases Nat.lt_or_ge y 64 with z | z
    · refine br_f (kb_64f z) ?_
      have skip : ¬ kb_T va ma vb mb H x y → wY_suppose_49 post J (nI ra) K (nI rb) (nI x) a b n s t (nI (y + 1)) := by
        intro no
        refine ih (y + 1) s t (by omega) (by omega) (fun s' t' hs ht => hJ s' t' (fun q hq => ?_) (fun q hq => ?_))
        · rw [hs q hq]
          constructor
          · rintro (h | ⟨e, y', l, l', g⟩)
            · exact .inl h
            · exact .inr ⟨e, y', by omega, l', g⟩
          · rintro (h | ⟨e, y', l, l', g⟩)
            · exact .inl h
            · refine .inr ⟨e, y', ?_, l', g⟩
              rcases Nat.lt_or_ge y y' with w | w
              · exact w
              · have : y' = y := by omega
                subst this
                exact absurd g no
        · rw [ht q hq]
          constructor
          · rintro (h | ⟨l, g⟩)
            · exact .inl h
            · exact .inr ⟨by omega, g⟩
          · rintro (h | ⟨l, g⟩)
            · exact .inl h
            · refine .inr ⟨?_, g⟩
              rcases Nat.lt_or_ge y q with w | w
              · exact w
              · have : q = y := by omega
                subst this
                exact absurd g no
      refine kb_Ystands hra a1 b1 ok1.1 hx (fun s1 => ?_) (fun s1 => ?_)
      · refine br_f (by decide) ?_
        refine kb_Ystands hrb a2 b2 ok2.1 z (fun s2 => ?_) (fun s2 => ?_)
        · refine br_f (by decide) ?_
          refine hH x y hx z _ (fun s3 => ?_) (fun s3 => ?_)
          · refine br_f (by decide) (nm_e (nm_e (nm_r (nI_1 y) ?_)))
            refine ih (y + 1) _ _ (by omega) (by omega) (fun s' t' hs ht => hJ s' t' (fun q hq => ?_) (fun q hq => ?_))
            · rw [hs q hq, kb_mb_or, kb_mb_1 hx]
              constructor
              · rintro ((h | h) | ⟨e, y', l, l', g⟩)
                · exact .inl h
                · exact .inr ⟨h, y, by omega, z, s1, s2, s3⟩
                · exact .inr ⟨e, y', by omega, l', g⟩
              · rintro (h | ⟨e, y', l, l', g⟩)
                · exact .inl (.inl h)
                · exact .inl (.inr e)
            · rw [ht q hq, kb_mb_or, kb_mb_1 z]
              constructor
              · rintro ((h | h) | ⟨l, g⟩)
                · exact .inl h
                · subst h
                  exact .inr ⟨by omega, s1, s2, s3⟩
                · exact .inr ⟨by omega, g⟩
              · rintro (h | ⟨l, g⟩)
                · exact .inl (.inl h)
                · rcases Nat.lt_or_ge y q with w | w
                  · exact .inr ⟨w, g⟩
                  · exact .inl (.inr (by omega))
          · exact br_t rfl (nm_r (nI_1 y) (skip fun h => s3 h.2.2))
        · exact br_t rfl (nm_r (nI_1 y) (skip fun h => s2 h.2.1))
      · exact br_t rfl (nm_r (nI_1 y) (skip fun h => s1 h.1))
    · have : y = 64 := by omega
      subst this
      refine br_t kb_64t (nm_r (nI_1 x) (hJ s t (fun q hq => ?_) (fun q hq => ?_)))
      · constructor
        · exact .inl
        · rintro (h | ⟨_, y', l, l', _⟩)
          · exact h
          · omega
      · constructor
        · exact .inl
        · rintro (h | ⟨l, _⟩)
          · exact h
          · omega
theorem kb_Ys39 {post : Int32 → SY → Prop} {a b : Nat → Int32} {K : Int32} {ra rb va ma vb mb : Nat} {H : Nat → Nat → Prop} (hra : ra < 6) (hrb : rb < 6) (a1 : a ra = nI va) (b1 : b ra = nI ma) (a2 : a rb = nI vb) (b2 : b rb = nI mb) (ok1 : kb_ok va ma) (ok2 : kb_ok vb mb)
    (hH : ∀ x y, x < 64 → y < 64 → ∀ P : Int32 → Prop, (H x y → P 1) → (¬ H x y → P 0) → wpY_holds P (nI x) K (nI y)) :
    ∀ n x s t, x ≤ 64 → 64 - x < n → (∀ s' t', (∀ q, q < 64 → (kb_mb s' q ↔ (kb_mb s q ∨ (x ≤ q ∧ ∃ y', y' < 64 ∧ kb_T va ma vb mb H q y')))) → (∀ q, q < 64 → (kb_mb t' q ↔ (kb_mb t q ∨ ∃ x', x ≤ x' ∧ x' < 64 ∧ kb_T va ma vb mb H x' q))) → ((∀ n, n < 64 → ¬ kb_mb s' n) ∧ (∀ n, n < 64 → ¬ kb_mb t' n) ∧ post (-2) (a, b)) ∨ ∃ v m v' m', kb_best (kb_mb s') v m ∧ kb_best (kb_mb t') v' m' ∧ post 0 (upd (upd a ra (nI v)) rb (nI v'), upd (upd b ra (nI m)) rb (nI m'))) → wY_suppose_39 post (nI ra) K (nI rb) a b n s t (nI x) := by
  intro n
  induction n with
  | zero => intro y s t _ h; omega
  | succ n ih =>
    intro x s t hx hn hJ
    rcases Nat.lt_or_ge x 64 with z | z
    · refine br_f (kb_64f z) ⟨65, ?_⟩
      refine kb_Ys49 hra hrb a1 b1 a2 b2 ok1 ok2 z hH 65 0 s t (by omega) (by omega) (fun s1 t1 h1 h2 => ?_)
      refine ih (x + 1) s1 t1 (by omega) (by omega) (fun s' t' hs ht => hJ s' t' (fun q hq => ?_) (fun q hq => ?_))
      · rw [hs q hq, h1 q hq]
        constructor
        · rintro ((h | ⟨e, y', _, l', g⟩) | ⟨l, y', l', g⟩)
          · exact .inl h
          · subst e
            exact .inr ⟨by omega, y', l', g⟩
          · exact .inr ⟨by omega, y', l', g⟩
        · rintro (h | ⟨l, y', l', g⟩)
          · exact .inl (.inl h)
          · rcases Nat.lt_or_ge x q with w | w
            · exact .inr ⟨w, y', l', g⟩
            · have : q = x := by omega
              subst this
              exact .inl (.inr ⟨rfl, y', by omega, l', g⟩)
      · rw [ht q hq, h2 q hq]
        constructor
        · rintro ((h | ⟨_, g⟩) | ⟨x', l, l', g⟩)
          · exact .inl h
          · exact .inr ⟨x, by omega, z, g⟩
          · exact .inr ⟨x', by omega, l', g⟩
        · rintro (h | ⟨x', l, l', g⟩)
          · exact .inl (.inl h)
          · rcases Nat.lt_or_ge x x' with w | w
            · exact .inr ⟨x', w, l', g⟩
            · have : x' = x := by omega
              subst this
              exact .inl (.inr ⟨by omega, g⟩)
    · have : x = 64 := by omega
      subst this
      refine br_t kb_64t ?_
      have F := hJ s t (fun q hq => ⟨.inl, fun h => h.elim id fun g => by omega⟩) (fun q hq => ⟨.inl, fun h => h.elim id fun ⟨x', l, l', _⟩ => by omega⟩)
      rcases F with ⟨e1, e2, hp⟩ | ⟨v, m, v', m', B1, B2, hp⟩
      · exact kb_Ykeep hra (.inl ⟨e1, kb_Ykeep hrb (.inl ⟨e2, hp⟩)⟩)
      · exact kb_Ykeep hra (.inr ⟨v, m, B1, kb_Ykeep hrb (.inr ⟨v', m', B2, hp⟩)⟩)
def kb_Vs (p0 p1 p2 : Int32) : Prop := kb_reg p0 ∧ kb_reg p2 ∧ ¬ p1 < 0 ∧ ¬ 5 < p1 ∧ ¬ p0 = p2
theorem kb_Ysuppose_bad {post : Int32 → SY → Prop} {a b : Nat → Int32} {p0 p1 p2 : Int32} (h : ¬ kb_Vs p0 p1 p2) (hp : post (-1) (a, b)) : wpY_suppose post (a, b) p0 p1 p2 := by
  unfold wpY_suppose
  exact kb_Yreg (fun h0 => kb_Yreg (fun h2 => br_c (fun _ => hp) (fun h1 => br_c (fun _ => hp) (fun h5 => br_c (fun _ => hp) (fun he => absurd ⟨h0, h2, h1, h5, he⟩ h)))) (fun _ => hp)) (fun _ => hp)
def kb_L (va ma vb mb : Nat) (H : Nat → Nat → Prop) (q : Nat) : Prop := ∃ y, y < 64 ∧ kb_T va ma vb mb H q y
def kb_Rt (va ma vb mb : Nat) (H : Nat → Nat → Prop) (q : Nat) : Prop := ∃ x, x < 64 ∧ kb_T va ma vb mb H x q
theorem kb_Ysuppose {post : Int32 → SY → Prop} {a b : Nat → Int32} {K : Int32} {ra rb va ma vb mb : Nat} {H : Nat → Nat → Prop} (hV : kb_Vs (nI ra) K (nI rb)) (hra : ra < 6) (hrb : rb < 6) (a1 : a ra = nI va) (b1 : b ra = nI ma) (a2 : a rb = nI vb) (b2 : b rb = nI mb) (ok1 : kb_ok va ma) (ok2 : kb_ok vb mb)
    (hH : ∀ x y, x < 64 → y < 64 → ∀ P : Int32 → Prop, (H x y → P 1) → (¬ H x y → P 0) → wpY_holds P (nI x) K (nI y))
    (hc : ((∀ q, q < 64 → ¬ kb_L va ma vb mb H q) ∧ (∀ q, q < 64 → ¬ kb_Rt va ma vb mb H q) ∧ post (-2) (a, b)) ∨ ∃ v m v' m', kb_best (kb_L va ma vb mb H) v m ∧ kb_best (kb_Rt va ma vb mb H) v' m' ∧ post 0 (upd (upd a ra (nI v)) rb (nI v'), upd (upd b ra (nI m)) rb (nI m'))) : wpY_suppose post (a, b) (nI ra) K (nI rb) := by
  unfold wpY_suppose
  refine kb_Yreg (fun _ => kb_Yreg (fun _ => br_f hV.2.2.1 (br_f hV.2.2.2.1 (br_f hV.2.2.2.2 ⟨65, ?_⟩))) (fun z => absurd hV.2.1 z)) (fun z => absurd hV.1 z)
  refine kb_Ys39 hra hrb a1 b1 a2 b2 ok1 ok2 hH 65 0 0 0 (by omega) (by omega) (fun s' t' hs ht => ?_)
  have e1 : ∀ q, q < 64 → (kb_L va ma vb mb H q ↔ kb_mb s' q) := by
    intro q hq
    rw [hs q hq]
    constructor
    · rintro ⟨y, l, g⟩
      exact .inr ⟨by omega, y, l, g⟩
    · rintro (h | ⟨_, y, l, g⟩)
      · exact absurd h (kb_mb_0 q)
      · exact ⟨y, l, g⟩
  have e2 : ∀ q, q < 64 → (kb_Rt va ma vb mb H q ↔ kb_mb t' q) := by
    intro q hq
    rw [ht q hq]
    constructor
    · rintro ⟨y, l, g⟩
      exact .inr ⟨y, by omega, l, g⟩
    · rintro (h | ⟨y, _, l, g⟩)
      · exact absurd h (kb_mb_0 q)
      · exact ⟨y, l, g⟩
  rcases hc with ⟨h1, h2, hp⟩ | ⟨v, m, v', m', B1, B2, hp⟩
  · exact .inl ⟨fun q hq z => h1 q hq ((e1 q hq).2 z), fun q hq z => h2 q hq ((e2 q hq).2 z), hp⟩
  · exact .inr ⟨v, m, v', m', kb_best_congr e1 B1, kb_best_congr e2 B2, hp⟩
/-! the conditions -/
theorem kb_H0 (x y : Nat) (hx : x < 64) (hy : y < 64) (P : Int32 → Prop) (h1 : x = y → P 1) (h0 : ¬ x = y → P 0) : wpY_holds P (nI x) 0 (nI y) := by
  unfold wpY_holds
  have e : nI x = nI y ↔ x = y := nI_eq (by omega) (by omega)
  exact br_t rfl (br_c (fun z => h1 (e.1 z)) (fun z => h0 fun w => z (e.2 w)))
theorem kb_H1 (x y : Nat) (hx : x < 64) (hy : y < 64) (P : Int32 → Prop) (h1 : x < y → P 1) (h0 : ¬ x < y → P 0) : wpY_holds P (nI x) 1 (nI y) := by
  unfold wpY_holds
  have e : nI y ≤ nI x ↔ y ≤ x := nI_leI (by omega) (by omega)
  exact br_f (by decide) (br_t rfl (br_c (fun z => h0 (by have := e.1 z; omega)) (fun z => h1 (by rw [e] at z; omega))))
theorem kb_H2 (x y : Nat) (hx : x < 64) (hy : y < 64) (P : Int32 → Prop) (h1 : x ≤ y → P 1) (h0 : ¬ x ≤ y → P 0) : wpY_holds P (nI x) 2 (nI y) := by
  unfold wpY_holds
  have e : nI y < nI x ↔ y < x := nI_ltI (by omega) (by omega)
  exact br_f (by decide) (br_f (by decide) (br_t rfl (br_c (fun z => h0 (by have := e.1 z; omega)) (fun z => h1 (by rw [e] at z; omega)))))
theorem kb_H3 (x y : Nat) (hx : x < 64) (hy : y < 64) (P : Int32 → Prop) (h1 : x ≠ y → P 1) (h0 : ¬ x ≠ y → P 0) : wpY_holds P (nI x) 3 (nI y) := by
  unfold wpY_holds
  have e : nI x = nI y ↔ x = y := nI_eq (by omega) (by omega)
  exact br_f (by decide) (br_f (by decide) (br_f (by decide) (br_t rfl (br_c (fun z => h0 fun w => w (e.1 z)) (fun z => h1 fun w => z (e.2 w))))))
theorem kb_H4 (x y : Nat) (hx : x < 64) (hy : y < 64) (P : Int32 → Prop) (h1 : y ≤ x → P 1) (h0 : ¬ y ≤ x → P 0) : wpY_holds P (nI x) 4 (nI y) := by
  unfold wpY_holds
  have e : nI x < nI y ↔ x < y := nI_ltI (by omega) (by omega)
  exact br_f (by decide) (br_f (by decide) (br_f (by decide) (br_f (by decide) (br_t rfl (br_c (fun z => h0 (by have := e.1 z; omega)) (fun z => h1 (by rw [e] at z; omega)))))))
theorem kb_H5 (x y : Nat) (hx : x < 64) (hy : y < 64) (P : Int32 → Prop) (h1 : y < x → P 1) (h0 : ¬ y < x → P 0) : wpY_holds P (nI x) 5 (nI y) := by
  unfold wpY_holds
  have e : nI x ≤ nI y ↔ x ≤ y := nI_leI (by omega) (by omega)
  exact br_f (by decide) (br_f (by decide) (br_f (by decide) (br_f (by decide) (br_f (by decide) (br_c (fun z => h0 (by have := e.1 z; omega)) (fun z => h1 (by rw [e] at z; omega)))))))
end
section
/-! ===== the reference: compare ===== -/
def kb_bI (c : Bool) : Int32 := match c with
  | true => 1
  | false => 0
theorem kb_Yp44 {post : Int32 → Prop} {J : Int32 → Int32 → Int32 → Prop} {a b : Nat → Int32} {K : Int32} {ra rb va ma vb mb x : Nat} {H : Nat → Nat → Prop} (hra : ra < 6) (hrb : rb < 6) (a1 : a ra = nI va) (b1 : b ra = nI ma) (a2 : a rb = nI vb) (b2 : b rb = nI mb) (ok1 : kb_ok va ma) (ok2 : kb_ok vb mb) (hx : x < 64)
    (hH : ∀ x y, x < 64 → y < 64 → ∀ P : Int32 → Prop, (H x y → P 1) → (¬ H x y → P 0) → wpY_holds P (nI x) K (nI y)) :
    ∀ n y (s t : Bool), y ≤ 64 → 64 - y < n → (∀ s' t' : Bool, (s' = true ↔ (s = true ∨ ∃ y', y ≤ y' ∧ y' < 64 ∧ kb_st va ma x ∧ kb_st vb mb y' ∧ H x y')) → (t' = true ↔ (t = true ∧ ∀ y', y ≤ y' → y' < 64 → kb_st va ma x → kb_st vb mb y' → H x y')) → J (kb_bI s') (kb_bI t') (nI (x + 1))) → wY_compare_44 post J (nI ra) K (nI rb) (nI x) a b n (kb_bI s) (kb_bI t) (nI y) := by
  intro n
  induction n with
  | zero => intro y s t _ h; omega
  | succ n ih =>
    intro y s t hy hn hJ
    rcases Nat.lt_or_ge y 64 with z | z
    · refine br_f (kb_64f z) ?_
      have split : ∀ y', y ≤ y' → y' = y ∨ y + 1 ≤ y' := fun y' h => by omega
      have skip : ¬ (kb_st va ma x ∧ kb_st vb mb y) → wY_compare_44 post J (nI ra) K (nI rb) (nI x) a b n (kb_bI s) (kb_bI t) (nI (y + 1)) := by
        intro no
        refine ih (y + 1) s t (by omega) (by omega) (fun s' t' hs ht => hJ s' t' ?_ ?_)
        · rw [hs]
          constructor
          · rintro (h | ⟨y', l, l', g⟩)
            · exact .inl h
            · exact .inr ⟨y', by omega, l', g⟩
          · rintro (h | ⟨y', l, l', g⟩)
            · exact .inl h
            · rcases split y' l with e | e
              · subst e
                exact absurd ⟨g.1, g.2.1⟩ no
              · exact .inr ⟨y', e, l', g⟩
        · rw [ht]
          constructor
          · rintro ⟨h, g⟩
            refine ⟨h, fun y' l l' g1 g2 => ?_⟩
            rcases split y' l with e | e
            · subst e
              exact absurd ⟨g1, g2⟩ no
            · exact g y' e l' g1 g2
          · rintro ⟨h, g⟩
            exact ⟨h, fun y' l l' g1 g2 => g y' (by omega) l' g1 g2⟩
      refine kb_Ystands hra a1 b1 ok1.1 hx (fun s1 => ?_) (fun s1 => ?_)
      · refine br_f (by decide) ?_
        refine kb_Ystands hrb a2 b2 ok2.1 z (fun s2 => ?_) (fun s2 => ?_)
        · refine br_f (by decide) ?_
          refine hH x y hx z _ (fun s3 => ?_) (fun s3 => ?_)
          · refine br_f (by decide) (nm_r (nI_1 y) ?_)
            refine ih (y + 1) true t (by omega) (by omega) (fun s' t' hs ht => hJ s' t' ?_ ?_)
            · rw [hs]
              constructor
              · intro _
                exact .inr ⟨y, by omega, z, s1, s2, s3⟩
              · intro _
                exact .inl rfl
            · rw [ht]
              constructor
              · rintro ⟨h, g⟩
                refine ⟨h, fun y' l l' g1 g2 => ?_⟩
                rcases split y' l with e | e
                · subst e
                  exact s3
                · exact g y' e l' g1 g2
              · rintro ⟨h, g⟩
                exact ⟨h, fun y' l l' g1 g2 => g y' (by omega) l' g1 g2⟩
          · refine br_t rfl (nm_r (nI_1 y) ?_)
            refine ih (y + 1) s false (by omega) (by omega) (fun s' t' hs ht => hJ s' t' ?_ ?_)
            · rw [hs]
              constructor
              · rintro (h | ⟨y', l, l', g⟩)
                · exact .inl h
                · exact .inr ⟨y', by omega, l', g⟩
              · rintro (h | ⟨y', l, l', g⟩)
                · exact .inl h
                · rcases split y' l with e | e
                  · subst e
                    exact absurd g.2.2 s3
                  · exact .inr ⟨y', e, l', g⟩
            · rw [ht]
              constructor
              · rintro ⟨h, g⟩
                cases h
              · rintro ⟨h, g⟩
                exact absurd (g y (by omega) z s1 s2) s3
        · exact br_t rfl (nm_r (nI_1 y) (skip fun h => s2 h.2))
      · exact br_t rfl (nm_r (nI_1 y) (skip fun h => s1 h.1))
    · have : y = 64 := by omega
      subst this
      refine br_t kb_64t (nm_r (nI_1 x) (hJ s t ?_ ?_))
      · constructor
        · exact .inl
        · rintro (h | ⟨y', l, l', _⟩)
          · exact h
          · omega
      · constructor
        · intro h
          exact ⟨h, fun y' l l' => by omega⟩
        · exact fun h => h.1
theorem kb_Yp34 {post : Int32 → Prop} {a b : Nat → Int32} {K : Int32} {ra rb va ma vb mb : Nat} {H : Nat → Nat → Prop} (hra : ra < 6) (hrb : rb < 6) (a1 : a ra = nI va) (b1 : b ra = nI ma) (a2 : a rb = nI vb) (b2 : b rb = nI mb) (ok1 : kb_ok va ma) (ok2 : kb_ok vb mb)
    (hH : ∀ x y, x < 64 → y < 64 → ∀ P : Int32 → Prop, (H x y → P 1) → (¬ H x y → P 0) → wpY_holds P (nI x) K (nI y)) :
    ∀ n x (s t : Bool), x ≤ 64 → 64 - x < n → (∀ s' t' : Bool, (s' = true ↔ (s = true ∨ ∃ x' y', x ≤ x' ∧ x' < 64 ∧ y' < 64 ∧ kb_st va ma x' ∧ kb_st vb mb y' ∧ H x' y')) → (t' = true ↔ (t = true ∧ ∀ x' y', x ≤ x' → x' < 64 → y' < 64 → kb_st va ma x' → kb_st vb mb y' → H x' y')) → (t' = true → post 1) ∧ (t' = false → s' = true → post 2) ∧ (t' = false → s' = false → post 0)) → wY_compare_34 post (nI ra) K (nI rb) a b n (kb_bI s) (kb_bI t) (nI x) := by
  intro n
  induction n with
  | zero => intro y s t _ h; omega
  | succ n ih =>
    intro x s t hx hn hJ
    rcases Nat.lt_or_ge x 64 with z | z
    · refine br_f (kb_64f z) ⟨65, ?_⟩
      refine kb_Yp44 hra hrb a1 b1 a2 b2 ok1 ok2 z hH 65 0 s t (by omega) (by omega) (fun s1 t1 h1 h2 => ?_)
      have split : ∀ y', x ≤ y' → y' = x ∨ x + 1 ≤ y' := fun y' h => by omega
      refine ih (x + 1) s1 t1 (by omega) (by omega) (fun s' t' hs ht => hJ s' t' ?_ ?_)
      · rw [hs, h1]
        constructor
        · rintro ((h | ⟨y', _, l', g⟩) | ⟨x', y', l, l', l2, g⟩)
          · exact .inl h
          · exact .inr ⟨x, y', by omega, z, l', g⟩
          · exact .inr ⟨x', y', by omega, l', l2, g⟩
        · rintro (h | ⟨x', y', l, l', l2, g⟩)
          · exact .inl (.inl h)
          · rcases split x' l with e | e
            · subst e
              exact .inl (.inr ⟨y', by omega, l2, g⟩)
            · exact .inr ⟨x', y', e, l', l2, g⟩
      · rw [ht, h2]
        constructor
        · rintro ⟨⟨h, g⟩, g'⟩
          refine ⟨h, fun x' y' l l' l2 => ?_⟩
          rcases split x' l with e | e
          · subst e
            exact g y' (by omega) l2
          · exact g' x' y' e l' l2
        · rintro ⟨h, g⟩
          exact ⟨⟨h, fun y' _ l2 => g x y' (by omega) z l2⟩, fun x' y' l l' l2 => g x' y' (by omega) l' l2⟩
    · have : x = 64 := by omega
      subst this
      refine br_t kb_64t ?_
      have F := hJ s t ⟨.inl, fun h => h.elim id fun ⟨x', y', l, l', _⟩ => by omega⟩ ⟨fun h => ⟨h, fun x' y' l l' => by omega⟩, fun h => h.1⟩
      cases t
      · cases s
        · exact br_t rfl (br_t rfl (F.2.2 rfl rfl))
        · exact br_t rfl (br_f (by decide) (F.2.1 rfl rfl))
      · exact br_f (by decide) (F.1 rfl)
def kb_Vp (p0 p1 p2 : Int32) : Prop := kb_reg p0 ∧ kb_reg p2 ∧ ¬ p1 < 0 ∧ p1 ≤ 5
theorem kb_Ycompare_bad {post : Int32 → Prop} {a b : Nat → Int32} {p0 p1 p2 : Int32} (h : ¬ kb_Vp p0 p1 p2) (hp : post (-1)) : wpY_compare post (a, b) p0 p1 p2 := by
  unfold wpY_compare
  exact kb_Yreg (fun h0 => kb_Yreg (fun h2 => br_c (fun _ => hp) (fun h1 => br_c (fun h5 => absurd ⟨h0, h2, h1, h5⟩ h) (fun _ => hp))) (fun _ => hp)) (fun _ => hp)
theorem kb_Ycompare {post : Int32 → Prop} {a b : Nat → Int32} {K : Int32} {ra rb va ma vb mb : Nat} {H : Nat → Nat → Prop} (hV : kb_Vp (nI ra) K (nI rb)) (hra : ra < 6) (hrb : rb < 6) (a1 : a ra = nI va) (b1 : b ra = nI ma) (a2 : a rb = nI vb) (b2 : b rb = nI mb) (ok1 : kb_ok va ma) (ok2 : kb_ok vb mb)
    (hH : ∀ x y, x < 64 → y < 64 → ∀ P : Int32 → Prop, (H x y → P 1) → (¬ H x y → P 0) → wpY_holds P (nI x) K (nI y))
    (c1 : (∀ x y, x < 64 → y < 64 → kb_st va ma x → kb_st vb mb y → H x y) → post 1)
    (c2 : (∃ x y, x < 64 ∧ y < 64 ∧ kb_st va ma x ∧ kb_st vb mb y ∧ ¬ H x y) → (∃ x y, x < 64 ∧ y < 64 ∧ kb_st va ma x ∧ kb_st vb mb y ∧ H x y) → post 2)
    (c0 : (∀ x y, x < 64 → y < 64 → kb_st va ma x → kb_st vb mb y → ¬ H x y) → post 0) : wpY_compare post (a, b) (nI ra) K (nI rb) := by
  unfold wpY_compare
  refine kb_Yreg (fun _ => kb_Yreg (fun _ => br_f hV.2.2.1 (br_t hV.2.2.2 ⟨65, ?_⟩)) (fun z => absurd hV.2.1 z)) (fun z => absurd hV.1 z)
  refine kb_Yp34 hra hrb a1 b1 a2 b2 ok1 ok2 hH 65 0 false true (by omega) (by omega) (fun s' t' hs ht => ⟨fun e => ?_, fun e e' => ?_, fun e e' => ?_⟩)
  · exact c1 fun x y l l' g g' => (ht.1 e).2 x y (by omega) l l' g g'
  · rcases hs.1 e' with h | ⟨x, y, _, l, l', g⟩
    · cases h
    · refine c2 ?_ ⟨x, y, l, l', g⟩
      apply Classical.byContradiction
      intro no
      have : t' = true := ht.2 ⟨rfl, fun x y _ l l' g g' => Classical.byContradiction fun w => no ⟨x, y, l, l', g, g', w⟩⟩
      rw [this] at e
      cases e
  · refine c0 fun x y l l' g g' w => ?_
    have : s' = true := hs.2 (.inr ⟨x, y, by omega, l, l', g, g', w⟩)
    rw [this] at e'
    cases e'
/-! ===== the reference: shift ===== -/
theorem kb_Ypow {post : Int32 → Prop} {s : Nat} (hs : s ≤ 6) (hp : post (nI (2 ^ s))) : wpY_power post (nI s) := by
  have L : ∀ n i, i ≤ s → s - i < n → wY_power_4 post (nI s) n (nI (2 ^ i)) (nI i) := by
    intro n
    induction n with
    | zero => intro i _ h; omega
    | succ n ih =>
      intro i hi hn
      rcases Nat.lt_or_ge i s with z | z
      · refine br_f (nI_ge z (by omega)) (br_f (nI_ge (b := 6) (by omega) (by omega)) (nm_r (e' := nI (2 ^ (i + 1))) ?_ (nm_r (nI_1 i) (ih (i + 1) (by omega) (by omega)))))
        rw [Nat.pow_succ]
        exact pk_mul (2 ^ i) 2
      · have : i = s := by omega
        subst this
        exact br_t (nI_le (Nat.le_refl _) (by omega)) hp
  show ∃ n4 : Nat, wY_power_4 post (nI s) n4 1 0
  exact ⟨s + 1, L (s + 1) 0 (by omega) (by omega)⟩
theorem kb_Ypow0 {post : Int32 → Prop} {p : Int32} (h : p ≤ 0) (hp : post 1) : wpY_power post p := by
  show ∃ n4 : Nat, wY_power_4 post p n4 1 0
  exact ⟨1, br_t h hp⟩
def kb_F (v m : Nat) (F : Nat → Nat) (q : Nat) : Prop := ∃ x, x < 64 ∧ kb_st v m x ∧ q = F x
theorem kb_Yh47 {post : Int32 → SY → Prop} {a b : Nat → Int32} {B U D : Int32} {d ra v m : Nat} {F : Nat → Nat} (hd : d < 6) (hra : ra < 6) (a1 : a ra = nI v) (b1 : b ra = nI m) (ok1 : kb_ok v m) (hF : ∀ x, x < 64 → F x < 64)
    (hB : ∀ (J : Int64 → Int32 → Prop) (s : Int64) (x : Nat), x < 64 → wY_shift_83 post J (nI d) (nI ra) B U D s (nI x) (nI (F x)) a b → ((B < 0 → (((D ≤ 0 → (wY_shift_83 post J (nI d) (nI ra) B U D s (nI x) 0 a b)) ∧ (¬ D ≤ 0 → (¬ D = 0 ∧ (wY_shift_83 post J (nI d) (nI ra) B U D s (nI x) (nI x / D) a b)))))) ∧ (¬ B < 0 → (¬ (64 : Int32) = 0 ∧ (wY_shift_83 post J (nI d) (nI ra) B U D s (nI x) ((nI x * U) - (nI x * U) / 64 * 64) a b))))) :
    ∀ n x s, x ≤ 64 → 64 - x < n → (∀ s', (∀ q, q < 64 → (kb_mb s' q ↔ (kb_mb s q ∨ ∃ x', x ≤ x' ∧ x' < 64 ∧ kb_st v m x' ∧ q = F x'))) → ((∀ n, n < 64 → ¬ kb_mb s' n) ∧ post (-2) (a, b)) ∨ ∃ v m, kb_best (kb_mb s') v m ∧ post 0 (upd a d (nI v), upd b d (nI m))) → wY_shift_47 post (nI d) (nI ra) B U D a b n s (nI x) := by
  intro n
  induction n with
  | zero => intro x s _ h; omega
  | succ n ih =>
    intro x s hx hn hJ
    rcases Nat.lt_or_ge x 64 with z | z
    · refine br_f (kb_64f z) (hB _ _ x z ?_)
      unfold wY_shift_83
      refine kb_Ystands hra a1 b1 ok1.1 z (fun s1 => ?_) (fun s1 => ?_)
      · refine br_f (by decide) (nm_e (nm_r (nI_1 x) ?_))
        refine ih (x + 1) _ (by omega) (by omega) (fun s' hs => hJ s' fun q hq => ?_)
        rw [hs q hq, kb_mb_or, kb_mb_1 (hF x z)]
        constructor
        · rintro ((h | h) | ⟨x', l, l', g⟩)
          · exact .inl h
          · exact .inr ⟨x, by omega, z, s1, h⟩
          · exact .inr ⟨x', by omega, l', g⟩
        · rintro (h | ⟨x', l, l', g⟩)
          · exact .inl (.inl h)
          · rcases Nat.lt_or_ge x x' with w | w
            · exact .inr ⟨x', w, l', g⟩
            · have : x' = x := by omega
              subst this
              exact .inl (.inr g.2)
      · refine br_t rfl (nm_r (nI_1 x) ?_)
        refine ih (x + 1) _ (by omega) (by omega) (fun s' hs => hJ s' fun q hq => ?_)
        rw [hs q hq]
        constructor
        · rintro (h | ⟨x', l, l', g⟩)
          · exact .inl h
          · exact .inr ⟨x', by omega, l', g⟩
        · rintro (h | ⟨x', l, l', g⟩)
          · exact .inl h
          · rcases Nat.lt_or_ge x x' with w | w
            · exact .inr ⟨x', w, l', g⟩
            · have : x' = x := by omega
              subst this
              exact absurd g.1 s1
    · have : x = 64 := by omega
      subst this
      refine br_t kb_64t (kb_Ykeep hd (hJ s fun q hq => ?_))
      constructor
      · exact .inl
      · rintro (h | ⟨x', l, l', _⟩)
        · exact h
        · omega
def kb_Vh (p0 p1 p2 : Int32) : Prop := kb_reg p0 ∧ kb_reg p1 ∧ ¬ p2 < (-6) ∧ p2 ≤ 6
theorem kb_Yshift_bad {post : Int32 → SY → Prop} {a b : Nat → Int32} {p0 p1 p2 : Int32} (h : ¬ kb_Vh p0 p1 p2) (hp : post (-1) (a, b)) : wpY_shift post (a, b) p0 p1 p2 := by
  unfold wpY_shift
  exact kb_Yreg (fun h0 => kb_Yreg (fun h2 => br_c (fun _ => hp) (fun h1 => br_c (fun h5 => absurd ⟨h0, h2, h1, h5⟩ h) (fun _ => hp))) (fun _ => hp)) (fun _ => hp)
theorem kb_Yshift_up {post : Int32 → SY → Prop} {a b : Nat → Int32} {d ra v m s : Nat} (hd : d < 6) (hra : ra < 6) (hs : s ≤ 6) (a1 : a ra = nI v) (b1 : b ra = nI m) (ok1 : kb_ok v m) (hc : ∃ v' m', kb_best (kb_F v m (fun x => x * 2 ^ s % 64)) v' m' ∧ post 0 (upd a d (nI v'), upd b d (nI m'))) : wpY_shift post (a, b) (nI d) (nI ra) (nI s) := by
  unfold wpY_shift
  have n0 : ¬ nI s < 0 := nI_pos (by omega)
  have t0 : (nI s).toInt = s := nI_toInt (by omega)
  have h6 : ¬ nI s < (-6) := by rw [kb_nlt (by omega), show (-6 : Int32).toInt = -6 from by decide]; omega
  refine kb_Yreg (fun _ => kb_Yreg (fun _ => br_f h6 (br_t (nI_le (b := 6) hs (by omega)) ?_)) (fun z => absurd ⟨ra, hra, rfl⟩ z)) (fun z => absurd ⟨d, hd, rfl⟩ z)
  have ng : -nI s ≤ 0 := by
    have : ∀ s, s ≤ 6 → -nI s ≤ 0 := by decide +kernel
    exact this s hs
  have p2 : 2 ^ s ≤ 2 ^ 6 := Nat.pow_le_pow_right (by omega) hs
  refine kb_Ypow hs (kb_Ypow0 ng ⟨65, ?_⟩)
  refine kb_Yh47 (F := fun x => x * 2 ^ s % 64) hd hra a1 b1 ok1 (fun x _ => Nat.mod_lt _ (by omega)) (fun J t x hx h => br_f n0 ⟨by decide, ?_⟩) 65 0 0 (by omega) (by omega) (fun s' hs' => ?_)
  · have l : x * 2 ^ s ≤ 63 * 2 ^ 6 := Nat.mul_le_mul (by omega) p2
    have e : (nI x * nI (2 ^ s)) - (nI x * nI (2 ^ s)) / 64 * 64 = nI (x * 2 ^ s % 64) := by
      rw [pk_mul]
      exact pk_rem (d := 64) (by omega) (by omega) (by omega)
    rw [e]
    exact h
  · obtain ⟨v', m', B, hp⟩ := hc
    refine .inr ⟨v', m', kb_best_congr (fun q hq => ?_) B, hp⟩
    rw [hs' q hq]
    constructor
    · rintro ⟨x, l, g⟩
      exact .inr ⟨x, by omega, l, g⟩
    · rintro (h | ⟨x, _, l, g⟩)
      · exact absurd h (kb_mb_0 q)
      · exact ⟨x, l, g⟩
theorem kb_Yshift_dn {post : Int32 → SY → Prop} {a b : Nat → Int32} {d ra v m s : Nat} (hd : d < 6) (hra : ra < 6) (hs0 : 0 < s) (hs : s ≤ 6) (a1 : a ra = nI v) (b1 : b ra = nI m) (ok1 : kb_ok v m) (hc : ∃ v' m', kb_best (kb_F v m (fun x => x / 2 ^ s)) v' m' ∧ post 0 (upd a d (nI v'), upd b d (nI m'))) : wpY_shift post (a, b) (nI d) (nI ra) (-nI s) := by
  unfold wpY_shift
  have C : ∀ s, s ≤ 6 → 0 < s → -nI s < 0 ∧ ¬ -nI s < (-6) ∧ -nI s ≤ 6 ∧ -nI s ≤ 0 ∧ -(-nI s) = nI s ∧ ¬ nI (2 ^ s) ≤ 0 ∧ ¬ nI (2 ^ s) = 0 := by decide +kernel
  obtain ⟨c1, c2, c3, c4, c5, c6, c7⟩ := C s hs hs0
  refine kb_Yreg (fun _ => kb_Yreg (fun _ => br_f c2 (br_t c3 ?_)) (fun z => absurd ⟨ra, hra, rfl⟩ z)) (fun z => absurd ⟨d, hd, rfl⟩ z)
  refine kb_Ypow0 c4 ?_
  rw [c5]
  have p2 : 2 ^ s ≤ 2 ^ 6 := Nat.pow_le_pow_right (by omega) hs
  refine kb_Ypow hs ⟨65, ?_⟩
  refine kb_Yh47 (F := fun x => x / 2 ^ s) hd hra a1 b1 ok1 (fun x hx => Nat.lt_of_le_of_lt (Nat.div_le_self _ _) hx) (fun J t x hx h => br_t c1 (br_f c6 ⟨c7, ?_⟩)) 65 0 0 (by omega) (by omega) (fun s' hs' => ?_)
  · rw [pk_div (by omega) (Nat.two_pow_pos s) (by omega)]
    exact h
  · obtain ⟨v', m', B, hp⟩ := hc
    refine .inr ⟨v', m', kb_best_congr (fun q hq => ?_) B, hp⟩
    rw [hs' q hq]
    constructor
    · rintro ⟨x, l, g⟩
      exact .inr ⟨x, by omega, l, g⟩
    · rintro (h | ⟨x, _, l, g⟩)
      · exact absurd h (kb_mb_0 q)
      · exact ⟨x, l, g⟩
end
section
/-! ===== the reference: narrow ===== -/
def kb_N (v m : Nat) (lo hi : Int) (q : Nat) : Prop := kb_st v m q ∧ lo ≤ (q : Int) ∧ (q : Int) ≤ hi
theorem kb_Yn15 {post : Int32 → SY → Prop} {a b : Nat → Int32} {lo hi : Int32} {r v m : Nat} (hr : r < 6) (a1 : a r = nI v) (b1 : b r = nI m) (ok1 : kb_ok v m) :
    ∀ n x s, x ≤ 64 → 64 - x < n → (∀ s', (∀ q, q < 64 → (kb_mb s' q ↔ (kb_mb s q ∨ (x ≤ q ∧ kb_N v m lo.toInt hi.toInt q)))) → ((∀ n, n < 64 → ¬ kb_mb s' n) ∧ post (-2) (a, b)) ∨ ∃ v m, kb_best (kb_mb s') v m ∧ post 0 (upd a r (nI v), upd b r (nI m))) → wY_narrow_15 post (nI r) lo hi a b n s (nI x) := by
  intro n
  induction n with
  | zero => intro x s _ h; omega
  | succ n ih =>
    intro x s hx hn hJ
    rcases Nat.lt_or_ge x 64 with z | z
    · refine br_f (kb_64f z) ?_
      have skip : ¬ kb_N v m lo.toInt hi.toInt x → wY_narrow_15 post (nI r) lo hi a b n s (nI (x + 1)) := by
        intro no
        refine ih (x + 1) _ (by omega) (by omega) (fun s' hs => hJ s' fun q hq => ?_)
        rw [hs q hq]
        constructor
        · rintro (h | ⟨l, g⟩)
          · exact .inl h
          · exact .inr ⟨by omega, g⟩
        · rintro (h | ⟨l, g⟩)
          · exact .inl h
          · rcases Nat.lt_or_ge x q with w | w
            · exact .inr ⟨w, g⟩
            · have : q = x := by omega
              subst this
              exact absurd g no
      refine kb_Ystands hr a1 b1 ok1.1 z (fun s1 => ?_) (fun s1 => ?_)
      · refine br_f (by decide) (br_c (fun c => nm_r (nI_1 x) (skip fun h => ?_)) (fun c => br_c (fun c2 => nm_r (nI_1 x) (skip fun h => ?_)) (fun c2 => nm_e (nm_r (nI_1 x) ?_))))
        · rw [kb_nlt (by omega)] at c
          have := h.2.1
          omega
        · rw [kb_xlt (by omega)] at c2
          have := h.2.2
          omega
        · rw [kb_nlt (by omega)] at c
          rw [kb_xlt (by omega)] at c2
          refine ih (x + 1) _ (by omega) (by omega) (fun s' hs => hJ s' fun q hq => ?_)
          rw [hs q hq, kb_mb_or, kb_mb_1 z]
          constructor
          · rintro ((h | h) | ⟨l, g⟩)
            · exact .inl h
            · subst h
              exact .inr ⟨by omega, s1, by omega, by omega⟩
            · exact .inr ⟨by omega, g⟩
          · rintro (h | ⟨l, g⟩)
            · exact .inl (.inl h)
            · rcases Nat.lt_or_ge x q with w | w
              · exact .inr ⟨w, g⟩
              · exact .inl (.inr (by omega))
      · exact br_t rfl (nm_r (nI_1 x) (skip fun h => s1 h.1))
    · have : x = 64 := by omega
      subst this
      refine br_t kb_64t (kb_Ykeep hr (hJ s fun q hq => ?_))
      constructor
      · exact .inl
      · rintro (h | ⟨l, _⟩)
        · exact h
        · omega
theorem kb_Ynarrow {post : Int32 → SY → Prop} {a b : Nat → Int32} {lo hi : Int32} {r v m : Nat} (hr : r < 6) (a1 : a r = nI v) (b1 : b r = nI m) (ok1 : kb_ok v m) (hc : ((∀ q, q < 64 → ¬ kb_N v m lo.toInt hi.toInt q) ∧ post (-2) (a, b)) ∨ ∃ v' m', kb_best (kb_N v m lo.toInt hi.toInt) v' m' ∧ post 0 (upd a r (nI v'), upd b r (nI m'))) : wpY_narrow post (a, b) (nI r) lo hi := by
  unfold wpY_narrow
  refine kb_Yreg (fun _ => ⟨65, ?_⟩) (fun z => absurd ⟨r, hr, rfl⟩ z)
  refine kb_Yn15 hr a1 b1 ok1 65 0 0 (by omega) (by omega) (fun s' hs => ?_)
  have e : ∀ q, q < 64 → (kb_N v m lo.toInt hi.toInt q ↔ kb_mb s' q) := by
    intro q hq
    rw [hs q hq]
    constructor
    · intro g
      exact .inr ⟨by omega, g⟩
    · rintro (h | ⟨_, g⟩)
      · exact absurd h (kb_mb_0 q)
      · exact g
  rcases hc with ⟨h, hp⟩ | ⟨v', m', B, hp⟩
  · exact .inl ⟨fun q hq z => h q hq ((e q hq).2 z), hp⟩
  · exact .inr ⟨v', m', kb_best_congr e B, hp⟩
/-! ===== the reference: least ===== -/
def kb_least (v m : Nat) (F : Int) (r : Nat) : Prop := (r < 64 ∧ kb_st v m r ∧ F ≤ (r : Int) ∧ ∀ n, n < 64 → kb_st v m n → F ≤ (n : Int) → r ≤ n) ∨ (r = 64 ∧ ∀ n, n < 64 → kb_st v m n → (n : Int) < F)
theorem kb_least_uniq {v m r r' : Nat} {F : Int} (h : kb_least v m F r) (h' : kb_least v m F r') : r = r' := by
  rcases h with ⟨l, s, f, g⟩ | ⟨l, g⟩ <;> rcases h' with ⟨l', s', f', g'⟩ | ⟨l', g'⟩
  · have := g r' l' s' f'
    have := g' r l s f
    omega
  · have := g' r l s
    omega
  · have := g r' l' s'
    omega
  · omega
theorem kb_Yleast {post : Int32 → Prop} {a b : Nat → Int32} {F : Int32} {r v m : Nat} (hr : r < 6) (a1 : a r = nI v) (b1 : b r = nI m) (ok1 : kb_ok v m) (hp : ∀ q, kb_least v m F.toInt q → post (nI q)) : wpY_least post (a, b) (nI r) F := by
  have L : ∀ n x, x ≤ 64 → 64 - x < n → (∀ j, j < x → kb_st v m j → (j : Int) < F.toInt) → wY_least_11 post (nI r) F a b n (nI x) := by
    intro n
    induction n with
    | zero => intro x _ h; omega
    | succ n ih =>
      intro x hx hn hs
      rcases Nat.lt_or_ge x 64 with z | z
      · refine br_f (kb_64f z) ?_
        have skip : (kb_st v m x → (x : Int) < F.toInt) → wY_least_11 post (nI r) F a b n (nI (x + 1)) := by
          intro no
          refine ih (x + 1) (by omega) (by omega) ?_
          intro j l g
          rcases Nat.lt_or_ge j x with w | w
          · exact hs j w g
          · have : j = x := by omega
            subst this
            exact no g
        refine br_c (fun c => nm_r (nI_1 x) (skip fun _ => (kb_nlt (by omega)).1 c)) (fun c => ?_)
        refine kb_Ystands hr a1 b1 ok1.1 z (fun s1 => br_f (by decide) (hp x (.inl ⟨z, s1, ?_, ?_⟩))) (fun s1 => br_t rfl (nm_r (nI_1 x) (skip fun h => absurd h s1)))
        · rw [kb_nlt (by omega)] at c
          omega
        · intro j l g f
          rcases Nat.lt_or_ge j x with w | w
          · have := hs j w g
            omega
          · exact w
      · have : x = 64 := by omega
        subst this
        exact br_t kb_64t (hp 64 (.inr ⟨rfl, hs⟩))
  unfold wpY_least
  exact kb_Yreg (fun _ => ⟨65, L 65 0 (by omega) (by omega) (fun j h => absurd h (by omega))⟩) (fun z => absurd ⟨r, hr, rfl⟩ z)
/-! ===== the reference: count ===== -/
def kb_cnt (P : Nat → Bool) : Nat → Nat
  | 0 => 0
  | n + 1 => kb_cnt P n + (match P n with
    | true => 1
    | false => 0)
theorem kb_cnt_t {P : Nat → Bool} {n : Nat} (h : P n = true) : kb_cnt P (n + 1) = kb_cnt P n + 1 := by
  show kb_cnt P n + _ = _
  rw [h]
theorem kb_cnt_f {P : Nat → Bool} {n : Nat} (h : P n = false) : kb_cnt P (n + 1) = kb_cnt P n := by
  show kb_cnt P n + _ = _
  rw [h]
  rfl
theorem kb_Ycount {post : Int32 → Prop} {a b : Nat → Int32} {lo hi : Int32} {r v m : Nat} {P : Nat → Bool} (hr : r < 6) (a1 : a r = nI v) (b1 : b r = nI m) (ok1 : kb_ok v m) (hP : ∀ q, q < 64 → (P q = true ↔ kb_N v m lo.toInt hi.toInt q)) (hp : post (nI (kb_cnt P 64))) : wpY_count post (a, b) (nI r) lo hi := by
  have L : ∀ n x, x ≤ 64 → 64 - x < n → wY_count_15 post (nI r) lo hi a b n (nI (kb_cnt P x)) (nI x) := by
    intro n
    induction n with
    | zero => intro x _ h; omega
    | succ n ih =>
      intro x hx hn
      rcases Nat.lt_or_ge x 64 with z | z
      · refine br_f (kb_64f z) ?_
        have skip : ¬ kb_N v m lo.toInt hi.toInt x → wY_count_15 post (nI r) lo hi a b n (nI (kb_cnt P x)) (nI (x + 1)) := by
          intro no
          have e : P x = false := by
            cases w : P x
            · rfl
            · exact absurd ((hP x z).1 w) no
          rw [← kb_cnt_f e]
          exact ih (x + 1) (by omega) (by omega)
        refine kb_Ystands hr a1 b1 ok1.1 z (fun s1 => ?_) (fun s1 => ?_)
        · refine br_f (by decide) (br_c (fun c => nm_r (nI_1 x) (skip fun h => ?_)) (fun c => br_c (fun c2 => nm_r (nI_1 x) (skip fun h => ?_)) (fun c2 => nm_r (e' := nI (kb_cnt P (x + 1))) ?_ (nm_r (nI_1 x) (ih (x + 1) (by omega) (by omega))))))
          · rw [kb_nlt (by omega)] at c
            have := h.2.1
            omega
          · rw [kb_xlt (by omega)] at c2
            have := h.2.2
            omega
          · rw [kb_nlt (by omega)] at c
            rw [kb_xlt (by omega)] at c2
            rw [kb_cnt_t ((hP x z).2 ⟨s1, by omega, by omega⟩)]
            exact nI_1 _
        · exact br_t rfl (nm_r (nI_1 x) (skip fun h => s1 h.1))
      · have : x = 64 := by omega
        subst this
        exact br_t kb_64t hp
  unfold wpY_count
  exact kb_Yreg (fun _ => ⟨65, L 65 0 (by omega) (by omega)⟩) (fun z => absurd ⟨r, hr, rfl⟩ z)
end
section
/-! ===== the component: leastFrom ===== -/
theorem kb_bit : ∀ k, k < 6 → (1 : Int32) <<< (nI k &&& 31) = nI (2 ^ k) := by decide +kernel
def kb_ix (j : Nat) : Int32 := match j with
  | 0 => -1
  | j + 1 => nI j
theorem kb_ix_m (j : Nat) : nI j + (-1) = kb_ix j := by
  cases j with
  | zero => decide
  | succ j => exact pk_m1 j
theorem kb_half (n k : Nat) : n / 2 ^ k = 2 * (n / 2 ^ (k + 1)) + (if n.testBit k = true then 1 else 0) := by
  rw [Nat.testBit_eq_decide_div_mod_eq, Nat.pow_succ, ← Nat.div_div_eq_div_mul]
  generalize n / 2 ^ k = z
  by_cases h : z % 2 = 1
  · rw [if_pos (decide_eq_true h)]; omega
  · rw [if_neg (by simpa using h)]; omega
theorem kb_hieq {x y k : Nat} (h : ∀ i, k ≤ i → x.testBit i = y.testBit i) : x / 2 ^ k = y / 2 ^ k := by
  apply Nat.eq_of_testBit_eq
  intro i
  rw [Nat.testBit_div_two_pow, Nat.testBit_div_two_pow]
  exact h _ (by omega)
theorem kb_hibit {x y k i : Nat} (h : x / 2 ^ k = y / 2 ^ k) (hi : k ≤ i) : x.testBit i = y.testBit i := by
  have e : ∀ x : Nat, x.testBit i = (x / 2 ^ k).testBit (i - k) := by
    intro x
    rw [Nat.testBit_div_two_pow]
    congr 1
    omega
  rw [e x, e y, h]
/-- p with the bit k taken away -/
def kb_cut (p k : Nat) : Nat := p ^^^ (p &&& 2 ^ k)
theorem kb_cut_bit (p k i : Nat) : (kb_cut p k).testBit i = (p.testBit i && !decide (k = i)) := by
  unfold kb_cut
  rw [Nat.testBit_xor, Nat.testBit_and, Nat.testBit_two_pow]
  cases p.testBit i <;> cases decide (k = i) <;> rfl
theorem kb_cut_self (p k : Nat) : (kb_cut p k).testBit k = false := by
  rw [kb_cut_bit]; simp
theorem kb_cut_ne {p k i : Nat} (h : k ≠ i) : (kb_cut p k).testBit i = p.testBit i := by
  rw [kb_cut_bit]; simp [h]
theorem kb_cut_lt {p k : Nat} (h : p < 64) : kb_cut p k < 64 := kb_an_lt h
def kb_inv (v m : Nat) (F : Int) (j p : Nat) : Prop := (∀ i, p.testBit i = true → m.testBit i = true) ∧ (∀ i, i < j → p.testBit i = m.testBit i) ∧ F ≤ ((v ||| p : Nat) : Int) ∧ ∀ n, n < 64 → kb_st v m n → F ≤ (n : Int) → (v ||| p) / 2 ^ j ≤ n / 2 ^ j
theorem kb_inv_take {v m k p : Nat} {F : Int} (ok : kb_ok v m) (h : kb_inv v m F (k + 1) p) (c : F ≤ ((v ||| kb_cut p k : Nat) : Int)) : kb_inv v m F k (kb_cut p k) := by
  obtain ⟨h1, h2, h3, h4⟩ := h
  refine ⟨fun i hi => h1 i ?_, fun i hi => ?_, c, fun n hn hs hf => ?_⟩
  · rw [kb_cut_bit] at hi
    revert hi
    cases p.testBit i <;> simp
  · rw [kb_cut_ne (by omega)]
    exact h2 i (by omega)
  · have g := h4 n hn hs hf
    have e : (v ||| kb_cut p k) / 2 ^ (k + 1) = (v ||| p) / 2 ^ (k + 1) := by
      apply kb_hieq
      intro i hi
      rw [Nat.testBit_or, Nat.testBit_or, kb_cut_ne (by omega)]
    rw [kb_half (v ||| kb_cut p k), kb_half n, e]
    cases zm : m.testBit k
    · have e1 : (v ||| kb_cut p k).testBit k = n.testBit k := by
        rw [Nat.testBit_or, kb_cut_self, kb_st_off hs zm]
        cases v.testBit k <;> rfl
      rw [e1]
      omega
    · have e1 : (v ||| kb_cut p k).testBit k = false := by
        rw [Nat.testBit_or, kb_cut_self, kb_ok_on ok zm]
        rfl
      rw [e1, if_neg (by simp)]
      omega
theorem kb_inv_stay {v m k p : Nat} {F : Int} (h : kb_inv v m F (k + 1) p) (c : ((v ||| kb_cut p k : Nat) : Int) < F) : kb_inv v m F k p := by
  obtain ⟨h1, h2, h3, h4⟩ := h
  refine ⟨h1, fun i hi => h2 i (by omega), h3, fun n hn hs hf => ?_⟩
  have g := h4 n hn hs hf
  rw [kb_half (v ||| p), kb_half n]
  rcases Nat.lt_or_ge ((v ||| p) / 2 ^ (k + 1)) (n / 2 ^ (k + 1)) with w | w
  · cases (v ||| p).testBit k <;> cases n.testBit k <;> simp <;> omega
  · have e : n / 2 ^ (k + 1) = (v ||| p) / 2 ^ (k + 1) := by omega
    cases zn : n.testBit k
    · exfalso
      have le : n ≤ v ||| kb_cut p k := by
        apply Nat.le_of_testBit
        intro i hi
        rcases Nat.lt_trichotomy i k with l | l | l
        · rw [Nat.testBit_or, kb_cut_ne (by omega), h2 i (by omega), kb_st_bit hs i, hi]
          cases m.testBit i <;> rfl
        · subst l
          rw [zn] at hi
          cases hi
        · rw [kb_hibit e (i := i) (by omega)] at hi
          rw [Nat.testBit_or, kb_cut_ne (by omega), ← Nat.testBit_or]
          exact hi
      omega
    · rw [if_pos rfl]
      have : (if (v ||| p).testBit k = true then 1 else 0) ≤ 1 := by
        cases (v ||| p).testBit k <;> simp
      omega
theorem kb_inv_0 {v m p : Nat} {F : Int} (ok : kb_ok v m) (h : kb_inv v m F 0 p) : kb_least v m F (v ||| p) := by
  obtain ⟨h1, _, h3, h4⟩ := h
  have hp : p < 64 := by
    apply kb_lt
    intro k hk
    cases z : p.testBit k
    · rfl
    · have := h1 k z
      rw [kb_hi ok.2.1 hk] at this
      cases this
  refine .inl ⟨kb_or_lt ok.1 hp, ?_, h3, fun n hn hs hf => ?_⟩
  · apply kb_st_of
    intro i
    have e := kb_ok_bit ok i
    have e2 := h1 i
    rw [Nat.testBit_or]
    revert e e2
    cases v.testBit i <;> cases m.testBit i <;> cases p.testBit i <;> simp
  · have := h4 n hn hs hf
    rw [Nat.pow_zero, Nat.div_one, Nat.div_one] at this
    exact this
theorem kb_inv_6 {v m : Nat} {F : Int} (ok : kb_ok v m) (h : F ≤ ((v ||| m : Nat) : Int)) : kb_inv v m F 6 m := by
  refine ⟨fun i hi => hi, fun i _ => rfl, h, fun n hn _ _ => ?_⟩
  have : (v ||| m) / 2 ^ 6 = 0 := Nat.div_eq_of_lt (kb_or_lt ok.1 ok.2.1)
  rw [this]
  exact Nat.zero_le _
theorem kb_Xl15 {post : Int32 → Prop} {v m : Nat} {F : Int32} (ok : kb_ok v m) (hp : ∀ r, kb_least v m F.toInt r → post (nI r)) : ∀ j p, j ≤ 6 → p < 64 → kb_inv v m F.toInt j p → wX_leastFrom_15 post (nI v) F (j + 1) (nI p) (kb_ix j) := by
  intro j
  induction j with
  | zero =>
    intro p _ _ h
    refine br_t (by decide) ?_
    rw [kb_or]
    exact hp _ (kb_inv_0 ok h)
  | succ k ih =>
    intro p hj hl h
    have ec : nI p &&& (((1 : Int32) <<< (nI k &&& 31)) ^^^ (-1)) = nI (kb_cut p k) := by
      rw [kb_bit k (by omega), kb_andn]
      rfl
    have l := kb_or_lt ok.1 (kb_cut_lt (k := k) hl)
    refine br_f (nI_pos (n := k) (by omega)) (nm_r ec (br_c (fun c => nm_r (kb_ix_m k) (ih p (by omega) hl ?_)) (fun c => nm_r (kb_ix_m k) (ih _ (by omega) (kb_cut_lt hl) ?_))))
    · rw [kb_or, kb_nlt (by omega)] at c
      exact kb_inv_stay h c
    · rw [kb_or, kb_nlt (by omega)] at c
      exact kb_inv_take ok h (by omega)
theorem kb_XleastFrom {post : Int32 → Prop} {v m : Nat} {F : Int32} (ok : kb_ok v m) (hp : ∀ r, kb_least v m F.toInt r → post (nI r)) : wpX_leastFrom post (nI v) (nI m) F := by
  unfold wpX_leastFrom
  have l := kb_or_lt ok.1 ok.2.1
  rw [kb_or]
  refine br_c (fun c => ⟨7, kb_Xl15 ok hp 6 m (by omega) ok.2.1 (kb_inv_6 ok ?_)⟩) (fun c => hp 64 (.inr ⟨rfl, fun n _ hs => ?_⟩))
  · rw [kb_xle (by omega)] at c
    exact c
  · rw [kb_xle (by omega)] at c
    have := kb_st_le hs
    omega
end
section
/-! ===== the component: narrowed ===== -/
def kb_loc (P : Nat → Prop) (v m k : Nat) : Prop := (m.testBit k = false → ∀ n, n < 64 → P n → n.testBit k = v.testBit k) ∧ (m.testBit k = true → v.testBit k = false ∧ ∃ n n', n < 64 ∧ n' < 64 ∧ P n ∧ P n' ∧ n.testBit k ≠ n'.testBit k)
theorem kb_loc_congr {P : Nat → Prop} {v m v' m' k : Nat} (ev : v'.testBit k = v.testBit k) (em : m'.testBit k = m.testBit k) (h : kb_loc P v m k) : kb_loc P v' m' k := by
  unfold kb_loc at *
  rw [ev, em]
  exact h
def kb_ninv (P : Nat → Prop) (v m k nv nm : Nat) : Prop := nv < 64 ∧ nm < 64 ∧ (∀ i, i < k → kb_loc P nv nm i) ∧ ∀ i, k ≤ i → nm.testBit i = m.testBit i ∧ nv.testBit i = v.testBit i
theorem kb_ninv_6 {P : Nat → Prop} {v m nv nm : Nat} (hP : ∃ n, n < 64 ∧ P n) (h : kb_ninv P v m 6 nv nm) : kb_best P nv nm := ⟨h.1, h.2.1, hP, h.2.2.1⟩
theorem kb_ninv_step {P : Nat → Prop} {v m k nv nm nv' nm' : Nat} (h : kb_ninv P v m k nv nm) (lv : nv' < 64) (lm : nm' < 64) (ev : ∀ i, k ≠ i → nv'.testBit i = nv.testBit i) (em : ∀ i, k ≠ i → nm'.testBit i = nm.testBit i) (hk : kb_loc P nv' nm' k) : kb_ninv P v m (k + 1) nv' nm' := by
  refine ⟨lv, lm, fun i hi => ?_, fun i hi => ?_⟩
  · rcases Nat.lt_or_ge i k with w | w
    · exact kb_loc_congr (ev i (by omega)) (em i (by omega)) (h.2.2.1 i w)
    · have : i = k := by omega
      subst this
      exact hk
  · rw [ev i (by omega), em i (by omega)]
    exact h.2.2.2 i (by omega)
def kb_put (p k : Nat) : Nat := p ||| 2 ^ k
theorem kb_put_self (p k : Nat) : (kb_put p k).testBit k = true := by
  unfold kb_put
  rw [Nat.testBit_or, Nat.testBit_two_pow_self, Bool.or_true]
theorem kb_put_ne {p k i : Nat} (h : k ≠ i) : (kb_put p k).testBit i = p.testBit i := by
  unfold kb_put
  rw [Nat.testBit_or, Nat.testBit_two_pow_of_ne h, Bool.or_false]
theorem kb_put_lt {p k : Nat} (h : p < 64) (hk : k < 6) : kb_put p k < 64 := kb_or_lt h (Nat.pow_lt_pow_right (a := 2) (n := 6) (by omega) hk)
theorem kb_st_cut {v m k n : Nat} (ok : kb_ok v m) (hm : m.testBit k = true) : kb_st v (kb_cut m k) n ↔ (kb_st v m n ∧ n.testBit k = false) := by
  have hv := kb_ok_on ok hm
  constructor
  · intro h
    have e := kb_st_bit h k
    rw [kb_cut_self, hv] at e
    have e0 : n.testBit k = false := by
      revert e
      cases n.testBit k <;> simp
    refine ⟨kb_st_of fun i => ?_, e0⟩
    by_cases w : k = i
    · subst w
      rw [hv, e0]
      rfl
    · rw [kb_st_bit h i, kb_cut_ne w]
  · rintro ⟨h, e0⟩
    refine kb_st_of fun i => ?_
    by_cases w : k = i
    · subst w
      rw [hv, e0]
      rfl
    · rw [kb_st_bit h i, kb_cut_ne w]
theorem kb_st_put {v m k n : Nat} (hm : m.testBit k = true) (hv : v.testBit k = false) : kb_st (kb_put v k) (kb_cut m k) n ↔ (kb_st v m n ∧ n.testBit k = true) := by
  constructor
  · intro h
    have e := kb_st_bit h k
    rw [kb_cut_self, kb_put_self] at e
    have e0 : n.testBit k = true := by
      revert e
      cases n.testBit k <;> simp
    refine ⟨kb_st_of fun i => ?_, e0⟩
    by_cases w : k = i
    · subst w
      rw [hv, e0, hm]
      rfl
    · have := kb_st_bit h i
      rw [kb_cut_ne w, kb_put_ne w] at this
      exact this
  · rintro ⟨h, e0⟩
    refine kb_st_of fun i => ?_
    by_cases w : k = i
    · subst w
      rw [kb_put_self, kb_cut_self, e0]
      rfl
    · rw [kb_cut_ne w, kb_put_ne w]
      exact kb_st_bit h i
theorem kb_ok_cut {v m k : Nat} (ok : kb_ok v m) : kb_ok v (kb_cut m k) := by
  refine kb_ok_of ok.1 (kb_cut_lt ok.2.1) fun i _ => ?_
  have := kb_ok_bit ok i
  rw [kb_cut_bit]
  revert this
  cases v.testBit i <;> cases m.testBit i <;> simp
theorem kb_ok_put {v m k : Nat} (ok : kb_ok v m) (hk : k < 6) : kb_ok (kb_put v k) (kb_cut m k) := by
  refine kb_ok_of (kb_put_lt ok.1 hk) (kb_cut_lt ok.2.1) fun i _ => ?_
  by_cases w : k = i
  · subst w
    rw [kb_cut_self, Bool.and_false]
  · rw [kb_cut_ne w, kb_put_ne w]
    exact kb_ok_bit ok i
theorem kb_least_le {v m r : Nat} {F hi : Int} (h : kb_least v m F r) : (r < 64 ∧ (r : Int) ≤ hi) ↔ ∃ n, n < 64 ∧ kb_N v m F hi n := by
  constructor
  · rintro ⟨l, c⟩
    rcases h with ⟨_, s, f, _⟩ | ⟨e, _⟩
    · exact ⟨r, l, s, f, c⟩
    · omega
  · rintro ⟨n, l, s, f, c⟩
    rcases h with ⟨l', _, _, g⟩ | ⟨_, g⟩
    · have := g n l s f
      exact ⟨l', by omega⟩
    · have := g n l s
      omega
theorem kb_least_64 {v m r : Nat} {F : Int} (h : kb_least v m F r) : r ≤ 64 := by
  rcases h with ⟨l, _⟩ | ⟨l, _⟩ <;> omega
theorem kb_flag {A B : Prop} {hi : Int32} {r : Nat} (hr : r ≤ 64) (h1 : (r < 64 ∧ (r : Int) ≤ hi.toInt) → B) (h0 : ¬ (r < 64 ∧ (r : Int) ≤ hi.toInt) → A) : (64 ≤ nI r → A) ∧ (¬ (64 : Int32) ≤ nI r → ((hi < nI r → A) ∧ (¬ hi < nI r → B))) := by
  have e : (64 : Int32) ≤ nI r ↔ 64 ≤ r := nI_leI (a := 64) (by omega) (by omega)
  rw [e, kb_xlt (by omega)]
  exact ⟨fun z => h0 (by omega), fun z => ⟨fun c => h0 (by omega), fun c => h1 (by omega)⟩⟩
theorem kb_X162 {post : Int32 → SX → Prop} {J : Int32 → Int32 → Int32 → Prop} {x3 x4 x5 x6 : Int32} {a b : Nat → Int32} {k nv nm : Nat} (zero one : Bool) (h : J (nI (k + 1)) (nI (if (one && !zero) = true then kb_put nv k else nv)) (nI (if (zero && one) = true then nm else kb_cut nm k))) : wX_narrowed_162 post J x3 x4 x5 x6 (nI k) (nI (2 ^ k)) (kb_bI zero) (kb_bI one) (nI nv) (nI nm) a b := by
  have ec : nI nm &&& (nI (2 ^ k) ^^^ (-1)) = nI (kb_cut nm k) := kb_andn _ _
  have ep : nI nv ||| nI (2 ^ k) = nI (kb_put nv k) := kb_or _ _
  unfold wX_narrowed_162 wX_narrowed_182 wX_narrowed_191
  rw [ec]
  cases zero <;> cases one
  · exact br_t rfl (br_t rfl (nm_r (nI_1 k) h))
  · exact br_t rfl (br_f (by decide) (br_t rfl (nm_r ep (nm_r (nI_1 k) h))))
  · exact br_f (by decide) (br_t rfl (br_t rfl (nm_r (nI_1 k) h)))
  · exact br_f (by decide) (br_f (by decide) (br_f (by decide) (br_f (by decide) (nm_r (nI_1 k) h))))
theorem kb_and_pow (m k : Nat) : m &&& 2 ^ k = 0 ↔ m.testBit k = false := by
  constructor
  · intro h
    have e := congrArg (fun z => z.testBit k) h
    rw [Nat.testBit_and, Nat.testBit_two_pow_self, Nat.zero_testBit, Bool.and_true] at e
    exact e
  · intro h
    apply Nat.eq_of_testBit_eq
    intro i
    rw [Nat.testBit_and, Nat.testBit_two_pow, Nat.zero_testBit]
    by_cases w : k = i
    · subst w
      rw [h]
      rfl
    · rw [decide_eq_false w, Bool.and_false]
theorem kb_X68 {post : Int32 → SX → Prop} {a b : Nat → Int32} {v m : Nat} {F hi : Int32} (ok : kb_ok v m) (hP : ∃ n, n < 64 ∧ kb_N v m F.toInt hi.toInt n) (hp : ∀ nv nm, kb_best (kb_N v m F.toInt hi.toInt) nv nm → post 1 (nI nv, nI nm, a, b)) : ∀ n k nv nm, k ≤ 6 → 6 - k < n → kb_ninv (kb_N v m F.toInt hi.toInt) v m k nv nm → wX_narrowed_68 post hi (nI v) (nI m) F a b n (nI k) (nI nv) (nI nm) := by
  intro n
  induction n with
  | zero => intro k nv nm _ h; omega
  | succ n ih =>
    intro k nv nm hk hn h
    rcases Nat.lt_or_ge k 6 with z | z
    · have lk : k + 1 ≤ 6 := by omega
      have ln : 6 - (k + 1) < n := by omega
      refine br_f (nI_ge (b := 6) z (by omega)) (nm_r (kb_bit k z) ?_)
      have l2 : 2 ^ k < 64 := Nat.pow_lt_pow_right (a := 2) (n := 6) (by omega) z
      have l3 := kb_and_lt (a := m) l2
      have em : (nI m &&& nI (2 ^ k)) = 0 ↔ m.testBit k = false := by
        rw [kb_and, ← nI_0, nI_eq (by omega) (by omega)]
        exact kb_and_pow m k
      have hb := h.2.2.2 k (Nat.le_refl k)
      refine br_c (fun c => nm_r (nI_1 k) (ih (k + 1) nv nm (by omega) (by omega) (kb_ninv_step h h.1 h.2.1 (fun _ _ => rfl) (fun _ _ => rfl) ?_))) (fun c => ?_)
      · rw [em] at c
        refine ⟨fun _ q _ hq => ?_, fun e => ?_⟩
        · rw [kb_st_off hq.1 c, hb.2]
        · rw [hb.1, c] at e
          cases e
      · have mk : m.testBit k = true := by
          cases w : m.testBit k
          · exact absurd (em.2 w) c
          · rfl
        have vk := kb_ok_on ok mk
        have ec : nI m &&& (nI (2 ^ k) ^^^ (-1)) = nI (kb_cut m k) := kb_andn _ _
        have ep : nI v ||| nI (2 ^ k) = nI (kb_put v k) := kb_or _ _
        rw [ec, ep]
        refine kb_XleastFrom (kb_ok_cut ok) (fun r0 hr0 => ?_)
        refine kb_XleastFrom (kb_ok_put ok z) (fun r1 hr1 => ?_)
        have Z : (r0 < 64 ∧ (r0 : Int) ≤ hi.toInt) ↔ ∃ q, q < 64 ∧ kb_N v m F.toInt hi.toInt q ∧ q.testBit k = false := by
          rw [kb_least_le hr0]
          constructor
          · rintro ⟨q, l, s, c⟩
            have := (kb_st_cut ok mk).1 s
            exact ⟨q, l, ⟨this.1, c⟩, this.2⟩
          · rintro ⟨q, l, ⟨s, c⟩, e⟩
            exact ⟨q, l, (kb_st_cut ok mk).2 ⟨s, e⟩, c⟩
        have O : (r1 < 64 ∧ (r1 : Int) ≤ hi.toInt) ↔ ∃ q, q < 64 ∧ kb_N v m F.toInt hi.toInt q ∧ q.testBit k = true := by
          rw [kb_least_le hr1]
          constructor
          · rintro ⟨q, l, s, c⟩
            have := (kb_st_put mk vk).1 s
            exact ⟨q, l, ⟨this.1, c⟩, this.2⟩
          · rintro ⟨q, l, ⟨s, c⟩, e⟩
            exact ⟨q, l, (kb_st_put mk vk).2 ⟨s, e⟩, c⟩
        have go : ∀ zero one : Bool, (zero = true ↔ ∃ q, q < 64 ∧ kb_N v m F.toInt hi.toInt q ∧ q.testBit k = false) → (one = true ↔ ∃ q, q < 64 ∧ kb_N v m F.toInt hi.toInt q ∧ q.testBit k = true) → wX_narrowed_162 post (wX_narrowed_68 post hi (nI v) (nI m) F a b n) hi (nI v) (nI m) F (nI k) (nI (2 ^ k)) (kb_bI zero) (kb_bI one) (nI nv) (nI nm) a b := by
          intro zero one hz ho
          apply kb_X162
          refine ih (k + 1) _ _ lk ln (kb_ninv_step h ?_ ?_ ?_ ?_ ?_)
          · cases (one && !zero)
            · exact h.1
            · exact kb_put_lt h.1 z
          · cases (zero && one)
            · exact kb_cut_lt h.2.1
            · exact h.2.1
          · intro i hi
            cases (one && !zero)
            · rfl
            · exact kb_put_ne hi
          · intro i hi
            cases (zero && one)
            · exact kb_cut_ne hi
            · rfl
          · cases zero <;> cases one
            · refine ⟨fun _ q l hq => ?_, fun e => ?_⟩
              · exfalso
                cases w : q.testBit k
                · exact absurd (hz.2 ⟨q, l, hq, w⟩) (by simp)
                · exact absurd (ho.2 ⟨q, l, hq, w⟩) (by simp)
              · have := (kb_cut_self nm k).symm.trans e
                cases this
            · refine ⟨fun _ q l hq => ?_, fun e => ?_⟩
              · show q.testBit k = (kb_put nv k).testBit k
                rw [kb_put_self]
                cases w : q.testBit k
                · exact absurd (hz.2 ⟨q, l, hq, w⟩) (by simp)
                · rfl
              · have := (kb_cut_self nm k).symm.trans e
                cases this
            · refine ⟨fun _ q l hq => ?_, fun e => ?_⟩
              · show q.testBit k = nv.testBit k
                rw [hb.2, vk]
                cases w : q.testBit k
                · rfl
                · exact absurd (ho.2 ⟨q, l, hq, w⟩) (by simp)
              · have := (kb_cut_self nm k).symm.trans e
                cases this
            · refine ⟨fun e => ?_, fun _ => ⟨?_, ?_⟩⟩
              · have e' : nm.testBit k = false := e
                rw [hb.1, mk] at e'
                cases e'
              · show nv.testBit k = false
                rw [hb.2, vk]
              · obtain ⟨q, l, s, e⟩ := hz.1 rfl
                obtain ⟨q', l', s', e'⟩ := ho.1 rfl
                exact ⟨q, q', l, l', s, s', by rw [e, e']; simp⟩
        have go2 : ∀ zero : Bool, (zero = true ↔ ∃ q, q < 64 ∧ kb_N v m F.toInt hi.toInt q ∧ q.testBit k = false) → wX_narrowed_142 post (wX_narrowed_68 post hi (nI v) (nI m) F a b n) hi (nI v) (nI m) F (nI k) (nI (2 ^ k)) (nI r1) (kb_bI zero) (nI nv) (nI nm) a b := by
          intro zero hz
          refine kb_flag (kb_least_64 hr1) (fun w => ?_) (fun w => ?_)
          · exact go zero true hz ⟨fun _ => O.1 w, fun _ => rfl⟩
          · exact go zero false hz ⟨(fun y => Bool.noConfusion y), fun y => absurd (O.2 y) w⟩
        refine kb_flag (kb_least_64 hr0) (fun w => ?_) (fun w => ?_)
        · exact go2 true ⟨fun _ => Z.1 w, fun _ => rfl⟩
        · exact go2 false ⟨(fun y => Bool.noConfusion y), fun y => absurd (Z.2 y) w⟩
    · have : k = 6 := by omega
      subst this
      exact br_t (by decide) (hp nv nm (kb_ninv_6 hP h))
theorem kb_X25 {post : Int32 → SX → Prop} {f g : Int32} {a b : Nat → Int32} {v m : Nat} {F hi : Int32} (ok : kb_ok v m) (h1 : ∀ nv nm, kb_best (kb_N v m F.toInt hi.toInt) nv nm → post 1 (nI nv, nI nm, a, b)) (h0 : (∀ q, q < 64 → ¬ kb_N v m F.toInt hi.toInt q) → post 0 (f, g, a, b)) : wX_narrowed_25 post hi (nI v) (nI m) F f g a b := by
  unfold wX_narrowed_25
  refine kb_XleastFrom ok (fun r hr => ?_)
  have E := kb_least_le (hi := hi.toInt) hr
  have l := kb_least_64 hr
  have yes : (r < 64 ∧ (r : Int) ≤ hi.toInt) → ∃ n68 : Nat, wX_narrowed_68 post hi (nI v) (nI m) F a b n68 0 (nI v) (nI m) := fun w => ⟨7, kb_X68 ok (E.1 w) h1 7 0 v m (by omega) (by omega) ⟨ok.1, ok.2.1, fun i hi => absurd hi (by omega), fun i _ => ⟨rfl, rfl⟩⟩⟩
  have no : ¬ (r < 64 ∧ (r : Int) ≤ hi.toInt) → post 0 (f, g, a, b) := fun w => h0 fun q hq hN => w (E.2 ⟨q, hq, hN⟩)
  have t63 : (63 : Int32).toInt = 63 := by decide
  unfold wX_narrowed_48
  refine br_c (fun c => br_c (fun c2 => yes ?_) (fun c2 => no ?_)) (fun c => br_c (fun c2 => yes ?_) (fun c2 => no ?_)) <;> rw [kb_nle (by omega)] at c2 <;> rw [Int32.le_iff_toInt_le, t63] at c
  · omega
  · omega
  · rw [t63] at c2
    omega
  · rw [t63] at c2
    omega
theorem kb_Xnarrowed {post : Int32 → SX → Prop} {f g : Int32} {a b : Nat → Int32} {r v m : Nat} {lo hi : Int32} (hr : r < 6) (a1 : a r = nI v) (b1 : b r = nI m) (ok : kb_ok v m) (h1 : ∀ nv nm, kb_best (kb_N v m lo.toInt hi.toInt) nv nm → post 1 (nI nv, nI nm, a, b)) (h0 : (∀ q, q < 64 → ¬ kb_N v m lo.toInt hi.toInt q) → post 0 (f, g, a, b)) : wpX_narrowed post (f, g, a, b) (nI r) lo hi := by
  unfold wpX_narrowed
  dsimp only
  rw [kb_cl hr, a1, b1]
  refine ⟨kb_in hr, nm_e ⟨kb_in hr, nm_e (br_c (fun c => kb_X25 ok h1 h0) (fun c => ?_))⟩⟩
  have t0 : (0 : Int32).toInt = 0 := by decide
  rw [Int32.le_iff_toInt_le, t0] at c
  have e : ∀ q, q < 64 → (kb_N v m (0 : Int32).toInt hi.toInt q ↔ kb_N v m lo.toInt hi.toInt q) := by
    intro q _
    unfold kb_N
    rw [t0]
    constructor
    · rintro ⟨s, _, c2⟩
      exact ⟨s, by omega, c2⟩
    · rintro ⟨s, _, c2⟩
      exact ⟨s, by omega, c2⟩
  exact kb_X25 ok (fun nv nm B => h1 nv nm (kb_best_congr e B)) (fun no => h0 fun q hq hN => no q hq ((e q hq).2 hN))
end
section
/-! ===== counting ===== -/
theorem kb_cnt_congr {P Q : Nat → Bool} : ∀ n, (∀ i, i < n → P i = Q i) → kb_cnt P n = kb_cnt Q n := by
  intro n
  induction n with
  | zero => intro _; rfl
  | succ n ih =>
    intro h
    have e := ih fun i hi => h i (by omega)
    have e2 := h n (by omega)
    cases w : Q n
    · rw [kb_cnt_f w, kb_cnt_f (e2.trans w), e]
    · rw [kb_cnt_t w, kb_cnt_t (e2.trans w), e]
theorem kb_cnt_0 {P : Nat → Bool} : ∀ n, (∀ i, i < n → P i = false) → kb_cnt P n = 0 := by
  intro n
  induction n with
  | zero => intro _; rfl
  | succ n ih =>
    intro h
    rw [kb_cnt_f (h n (by omega)), ih fun i hi => h i (by omega)]
theorem kb_cnt_add (P : Nat → Bool) (a : Nat) : ∀ b, kb_cnt P (a + b) = kb_cnt P a + kb_cnt (fun i => P (a + i)) b := by
  intro b
  induction b with
  | zero => rfl
  | succ b ih =>
    rw [← Nat.add_assoc]
    cases w : P (a + b)
    · rw [kb_cnt_f w, kb_cnt_f (P := fun i => P (a + i)) w, ih]
    · rw [kb_cnt_t w, kb_cnt_t (P := fun i => P (a + i)) w, ih, Nat.add_assoc]
theorem kb_cnt_le (P : Nat → Bool) : ∀ n, kb_cnt P n ≤ n := by
  intro n
  induction n with
  | zero => exact Nat.le_refl _
  | succ n ih =>
    cases w : P n
    · rw [kb_cnt_f w]; omega
    · rw [kb_cnt_t w]; omega
theorem kb_cnt_3 {P Q R : Nat → Bool} : ∀ n, (∀ i, i < n → (P i = true ∧ Q i = false ∧ R i = true) ∨ (P i = false ∧ Q i = true ∧ R i = true) ∨ (P i = false ∧ Q i = false ∧ R i = false)) → kb_cnt P n + kb_cnt Q n = kb_cnt R n := by
  intro n
  induction n with
  | zero => intro _; rfl
  | succ n ih =>
    intro h
    have e := ih fun i hi => h i (by omega)
    rcases h n (by omega) with ⟨p, q, r⟩ | ⟨p, q, r⟩ | ⟨p, q, r⟩
    · rw [kb_cnt_t p, kb_cnt_f q, kb_cnt_t r]; omega
    · rw [kb_cnt_f p, kb_cnt_t q, kb_cnt_t r]; omega
    · rw [kb_cnt_f p, kb_cnt_f q, kb_cnt_f r]; omega
/-! ===== standing, by the lowest j bits ===== -/
def kb_sk (v m : Nat) : Nat → Nat → Bool
  | 0, _ => true
  | j + 1, n => kb_sk v m j n && ((n.testBit j && !m.testBit j) == v.testBit j)
theorem kb_sk_congr {v m : Nat} : ∀ {j n n' : Nat}, (∀ i, i < j → n.testBit i = n'.testBit i) → kb_sk v m j n = kb_sk v m j n' := by
  intro j
  induction j with
  | zero => intro n n' _; rfl
  | succ j ih =>
    intro n n' h
    show (kb_sk v m j n && _) = (kb_sk v m j n' && _)
    rw [ih fun i hi => h i (by omega), h j (by omega)]
theorem kb_sk_iff {v m : Nat} : ∀ {j n : Nat}, kb_sk v m j n = true ↔ ∀ i, i < j → v.testBit i = (n.testBit i && !m.testBit i) := by
  intro j
  induction j with
  | zero => intro n; exact ⟨fun _ i hi => absurd hi (by omega), fun _ => rfl⟩
  | succ j ih =>
    intro n
    show (kb_sk v m j n && _) = true ↔ _
    rw [Bool.and_eq_true, ih, beq_iff_eq]
    constructor
    · rintro ⟨h, e⟩ i hi
      rcases Nat.lt_or_ge i j with w | w
      · exact h i w
      · have : i = j := by omega
        subst this
        exact e.symm
    · intro h
      exact ⟨fun i hi => h i (by omega), (h j (by omega)).symm⟩
theorem kb_sk_6 {v m n : Nat} (hv : v < 64) (hn : n < 64) : kb_sk v m 6 n = true ↔ kb_st v m n := by
  rw [kb_sk_iff]
  exact ⟨fun h => kb_st_of6 hv hn h, fun h i _ => kb_st_bit h i⟩
theorem kb_sk_lo {v m j n : Nat} (hn : n < 2 ^ j) : kb_sk v m (j + 1) n = (kb_sk v m j n && !v.testBit j) := by
  show (kb_sk v m j n && _) = _
  rw [Nat.testBit_lt_two_pow hn]
  cases v.testBit j <;> rfl
theorem kb_sk_hi {v m j n : Nat} (hn : n < 2 ^ j) : kb_sk v m (j + 1) (2 ^ j + n) = (kb_sk v m j n && ((!m.testBit j) == v.testBit j)) := by
  show (kb_sk v m j (2 ^ j + n) && _) = _
  rw [Nat.testBit_two_pow_add_eq, Nat.testBit_lt_two_pow hn, kb_sk_congr (n := 2 ^ j + n) (n' := n) fun i hi => Nat.testBit_two_pow_add_gt hi n]
  rfl
theorem kb_cnt_and {P : Nat → Bool} {c : Bool} (n : Nat) : kb_cnt (fun i => P i && c) n = if c = true then kb_cnt P n else 0 := by
  cases c
  · rw [if_neg (by simp)]
    exact kb_cnt_0 n fun i _ => Bool.and_false _
  · rw [if_pos rfl]
    exact kb_cnt_congr n fun i _ => Bool.and_true _
theorem kb_dbl (j : Nat) : 2 ^ (j + 1) = 2 ^ j + 2 ^ j := by rw [Nat.pow_succ]; omega
theorem kb_tot {v m : Nat} (ok : kb_ok v m) : ∀ j, kb_cnt (kb_sk v m j) (2 ^ j) = 2 ^ kb_cnt m.testBit j := by
  intro j
  induction j with
  | zero => rfl
  | succ j ih =>
    have e1 : kb_cnt (kb_sk v m (j + 1)) (2 ^ j) = if (!v.testBit j) = true then 2 ^ kb_cnt m.testBit j else 0 := by
      rw [kb_cnt_congr (Q := fun i => kb_sk v m j i && !v.testBit j) (2 ^ j) fun i hi => kb_sk_lo hi, kb_cnt_and, ih]
    have e2 : kb_cnt (fun i => kb_sk v m (j + 1) (2 ^ j + i)) (2 ^ j) = if ((!m.testBit j) == v.testBit j) = true then 2 ^ kb_cnt m.testBit j else 0 := by
      rw [kb_cnt_congr (Q := fun i => kb_sk v m j i && ((!m.testBit j) == v.testBit j)) (2 ^ j) fun i hi => kb_sk_hi hi, kb_cnt_and, ih]
    rw [kb_dbl, kb_cnt_add, e1, e2]
    have e := kb_ok_bit ok j
    cases wm : m.testBit j
    · rw [kb_cnt_f (P := m.testBit) wm]
      cases v.testBit j <;> simp
    · rw [kb_cnt_t (P := m.testBit) wm]
      rw [wm] at e
      revert e
      cases v.testBit j
      · intro _
        rw [if_pos (by rfl), if_pos (by rfl), Nat.pow_succ]
        omega
      · intro e
        cases e
def kb_rs (bm bv bl : Bool) (t r : Nat) : Nat := match bm, bv, bl with
  | true, _, true => t + r
  | true, _, false => r
  | false, false, true => t
  | false, true, false => 0
  | false, false, false => r
  | false, true, true => r
/-- how many of the lowest j bits' numbers stand and do not pass l -/
def kb_rk (v m l : Nat) : Nat → Nat
  | 0 => 1
  | j + 1 => kb_rs (m.testBit j) (v.testBit j) (l.testBit j) (2 ^ kb_cnt m.testBit j) (kb_rk v m l j)
theorem kb_mod_t {l j : Nat} (h : l.testBit j = true) : l % 2 ^ (j + 1) = 2 ^ j + l % 2 ^ j := by
  have e := kb_half l j
  rw [h, if_pos rfl] at e
  have a := Nat.div_add_mod l (2 ^ j)
  have b := Nat.div_add_mod l (2 ^ (j + 1))
  rw [kb_dbl] at b
  rw [kb_dbl] at e
  rw [kb_dbl, e] at *
  generalize l / (2 ^ j + 2 ^ j) = q at *
  generalize 2 ^ j = d at *
  have c : d * (2 * q + 1) = (d + d) * q + d := by grind
  rw [c] at a
  omega
theorem kb_mod_f {l j : Nat} (h : l.testBit j = false) : l % 2 ^ (j + 1) = l % 2 ^ j := by
  have e := kb_half l j
  rw [h, if_neg (by simp)] at e
  have a := Nat.div_add_mod l (2 ^ j)
  have b := Nat.div_add_mod l (2 ^ (j + 1))
  rw [kb_dbl] at b
  rw [kb_dbl] at e
  rw [kb_dbl, e] at *
  generalize l / (2 ^ j + 2 ^ j) = q at *
  generalize 2 ^ j = d at *
  have c : d * (2 * q + 0) = (d + d) * q := by grind
  rw [c] at a
  omega
theorem kb_rk_law {v m l : Nat} (ok : kb_ok v m) : ∀ j, kb_cnt (fun n => kb_sk v m j n && decide (n ≤ l % 2 ^ j)) (2 ^ j) = kb_rk v m l j := by
  intro j
  induction j with
  | zero =>
    show kb_cnt _ (0 + 1) = 1
    rw [kb_cnt_t]
    · rfl
    · show (true && decide (0 ≤ l % 2 ^ 0)) = true
      simp
  | succ j ih =>
    have T := kb_tot ok j
    have lm : l % 2 ^ j < 2 ^ j := Nat.mod_lt _ (Nat.two_pow_pos j)
    have ev := kb_ok_bit ok j
    rw [kb_dbl, kb_cnt_add]
    cases wl : l.testBit j
    · have e1 : kb_cnt (fun n => kb_sk v m (j + 1) n && decide (n ≤ l % (2 ^ j + 2 ^ j))) (2 ^ j) = if (!v.testBit j) = true then kb_rk v m l j else 0 := by
        rw [← ih, ← kb_cnt_and]
        apply kb_cnt_congr
        intro i hi
        rw [kb_sk_lo hi, ← kb_dbl, kb_mod_f wl]
        cases kb_sk v m j i <;> cases v.testBit j <;> simp
      have e2 : kb_cnt (fun i => kb_sk v m (j + 1) (2 ^ j + i) && decide (2 ^ j + i ≤ l % (2 ^ j + 2 ^ j))) (2 ^ j) = 0 := by
        apply kb_cnt_0
        intro i hi
        rw [← kb_dbl, kb_mod_f wl, decide_eq_false (by omega), Bool.and_false]
      rw [e1, e2]
      show _ = kb_rs (m.testBit j) (v.testBit j) (l.testBit j) (2 ^ kb_cnt m.testBit j) (kb_rk v m l j)
      rw [wl]
      cases wm : m.testBit j <;> cases wv : v.testBit j <;> rw [wm, wv] at ev <;> first | cases ev; done | skip
      · rw [if_pos (by rfl)]; rfl
      · rw [if_neg (by simp)]; rfl
      · rw [if_pos (by rfl)]; rfl
    · have e1 : kb_cnt (fun n => kb_sk v m (j + 1) n && decide (n ≤ l % (2 ^ j + 2 ^ j))) (2 ^ j) = if (!v.testBit j) = true then 2 ^ kb_cnt m.testBit j else 0 := by
        rw [← T, ← kb_cnt_and]
        apply kb_cnt_congr
        intro i hi
        rw [kb_sk_lo hi, ← kb_dbl, kb_mod_t wl, decide_eq_true (by omega), Bool.and_true]
      have e2 : kb_cnt (fun i => kb_sk v m (j + 1) (2 ^ j + i) && decide (2 ^ j + i ≤ l % (2 ^ j + 2 ^ j))) (2 ^ j) = if ((!m.testBit j) == v.testBit j) = true then kb_rk v m l j else 0 := by
        rw [← ih, ← kb_cnt_and]
        apply kb_cnt_congr
        intro i hi
        rw [kb_sk_hi hi, ← kb_dbl, kb_mod_t wl]
        have : decide (2 ^ j + i ≤ 2 ^ j + l % 2 ^ j) = decide (i ≤ l % 2 ^ j) := by
          by_cases w : i ≤ l % 2 ^ j
          · rw [decide_eq_true w, decide_eq_true (by omega)]
          · rw [decide_eq_false w, decide_eq_false (by omega)]
        rw [this]
        cases kb_sk v m j i <;> cases decide (i ≤ l % 2 ^ j) <;> cases ((!m.testBit j) == v.testBit j) <;> rfl
      rw [e1, e2]
      show _ = kb_rs (m.testBit j) (v.testBit j) (l.testBit j) (2 ^ kb_cnt m.testBit j) (kb_rk v m l j)
      rw [wl]
      cases wm : m.testBit j <;> cases wv : v.testBit j <;> rw [wm, wv] at ev
      · rw [if_pos (by rfl), if_neg (by simp)]; rfl
      · rw [if_neg (by simp), if_pos (by rfl)]; exact Nat.zero_add _
      · rw [if_pos (by rfl), if_pos (by rfl)]; rfl
      · cases ev
end
section
/-! ===== the component: bits, rank, count ===== -/
theorem kb_bit7 : ∀ k, k < 7 → (1 : Int32) <<< (nI k &&& 31) = nI (2 ^ k) := by decide +kernel
theorem kb_shr1 {s k : Nat} (hs : s < 64) (hk : k < 6) : (nI s >>> (nI k &&& 31)) &&& 1 = kb_bI (s.testBit k) := by
  rw [pk_shrN (by omega) _ k (s_l k (by omega)), show (1 : Int32) = nI 1 from rfl, kb_and, Nat.and_one_is_mod, Nat.testBit_eq_decide_div_mod_eq]
  generalize s / 2 ^ k = z
  by_cases h : z % 2 = 1
  · rw [h, decide_eq_true rfl]; rfl
  · have : z % 2 = 0 := by omega
    rw [this]; rfl
theorem kb_cnt_bI (P : Nat → Bool) (k : Nat) : nI (kb_cnt P k) + kb_bI (P k) = nI (kb_cnt P (k + 1)) := by
  cases w : P k
  · rw [kb_cnt_f w]
    exact nI_add _ 0
  · rw [kb_cnt_t w]
    exact nI_1 _
theorem kb_Xbits {post : Int32 → Prop} {s : Nat} (hs : s < 64) (hp : post (nI (kb_cnt s.testBit 6))) : wpX_bits post (nI s) := by
  have L : ∀ n k, k ≤ 6 → 6 - k < n → wX_bits_4 post (nI s) n (nI (kb_cnt s.testBit k)) (nI k) := by
    intro n
    induction n with
    | zero => intro k _ h; omega
    | succ n ih =>
      intro k hk hn
      rcases Nat.lt_or_ge k 6 with z | z
      · refine br_f (nI_ge (b := 6) z (by omega)) (nm_r (e' := nI (kb_cnt s.testBit (k + 1))) ?_ (nm_r (nI_1 k) (ih (k + 1) (by omega) (by omega))))
        rw [kb_shr1 hs z, kb_cnt_bI]
      · have : k = 6 := by omega
        subst this
        exact br_t (by decide) hp
  show ∃ n4 : Nat, wX_bits_4 post (nI s) n4 0 0
  exact ⟨7, L 7 0 (by omega) (by omega)⟩
theorem kb_cnt_mod {m k : Nat} (hk : k ≤ 6) : kb_cnt (m % 2 ^ k).testBit 6 = kb_cnt m.testBit k := by
  have e : 6 = k + (6 - k) := by omega
  rw [e, kb_cnt_add, kb_cnt_0 (P := fun i => (m % 2 ^ k).testBit (k + i)) (6 - k) fun i _ => ?_, Nat.add_zero]
  · apply kb_cnt_congr
    intro i hi
    rw [Nat.testBit_mod_two_pow, decide_eq_true hi, Bool.true_and]
  · rw [Nat.testBit_mod_two_pow, decide_eq_false (by omega), Bool.false_and]
theorem kb_X68r {post : Int32 → Prop} {J : Int32 → Int32 → Prop} {f g : Int32} {a b : Nat → Int32} {r v m l k acc t R : Nat} (hr : r < 6) (a1 : a r = nI v) (b1 : b r = nI m) (ok : kb_ok v m) (hk : k < 6) (hJ : ∀ acc', (kb_rs (m.testBit k) (v.testBit k) (l.testBit k) t R + acc = R + acc') → J (nI acc') (kb_ix k)) (hp : ∀ q, q = kb_rs (m.testBit k) (v.testBit k) (l.testBit k) t R + acc → post (nI q)) : wX_rank_68 post J (nI r) (nI l) (nI acc) (nI k) (nI t) (kb_bI (l.testBit k)) f g a b := by
  unfold wX_rank_68 wX_rank_122
  rw [kb_cl hr, a1, b1, kb_shr1 ok.2.1 hk, kb_shr1 ok.1 hk, kb_ix_m]
  have z0 : nI acc + 0 = nI acc := nI_add acc 0
  have zt : nI acc + nI t = nI (acc + t) := nI_add acc t
  rw [z0, zt]
  cases wm : m.testBit k <;> cases wl : l.testBit k <;> cases wv : v.testBit k <;> rw [wm, wl, wv] at hJ hp <;> refine ⟨kb_in hr, ?_⟩
  · exact br_t rfl ⟨kb_in hr, br_t rfl (br_t rfl (nm_e (hJ acc rfl)))⟩
  · exact br_t rfl ⟨kb_in hr, br_t rfl (br_f (by decide) (br_t rfl (hp acc (Nat.zero_add _).symm)))⟩
  · exact br_t rfl ⟨kb_in hr, br_f (by decide) (br_f (by decide) (br_f (by decide) (hp _ (Nat.add_comm _ _))))⟩
  · exact br_t rfl ⟨kb_in hr, br_f (by decide) (br_t rfl (nm_e (hJ acc rfl)))⟩
  · exact br_f (by decide) (br_t rfl (nm_e (nm_e (hJ acc rfl))))
  · exact br_f (by decide) (br_t rfl (nm_e (nm_e (hJ acc rfl))))
  · exact br_f (by decide) (br_f (by decide) (nm_e (nm_e (hJ (acc + t) (by show t + R + acc = _; omega)))))
  · exact br_f (by decide) (br_f (by decide) (nm_e (nm_e (hJ (acc + t) (by show t + R + acc = _; omega)))))
theorem kb_X29 {post : Int32 → Prop} {f g : Int32} {a b : Nat → Int32} {r v m l : Nat} (hr : r < 6) (a1 : a r = nI v) (b1 : b r = nI m) (ok : kb_ok v m) (hl : l < 64) : ∀ j acc, j ≤ 6 → post (nI (kb_rk v m l j + acc)) → wX_rank_29 post (nI r) (nI l) f g a b (j + 1) (nI acc) (kb_ix j) := by
  intro j
  induction j with
  | zero =>
    intro acc _ hp
    refine br_t (by decide) ?_
    rw [nI_1, Nat.add_comm]
    exact hp
  | succ k ih =>
    intro acc hj hp
    show wX_rank_29 post (nI r) (nI l) f g a b (k + 1 + 1) (nI acc) (nI k)
    refine br_f (nI_pos (n := k) (by omega)) ⟨kb_in hr, ?_⟩
    have e2 : (1 : Int32) <<< (nI k &&& 31) - 1 = nI (2 ^ k - 1) := by
      rw [kb_bit k (by omega)]
      exact pk_sub (b := 1) (Nat.two_pow_pos k)
    rw [kb_cl hr, b1, e2, kb_and, Nat.and_two_pow_sub_one_eq_mod]
    refine kb_Xbits (Nat.lt_of_le_of_lt (Nat.mod_le _ _) ok.2.1) ?_
    rw [kb_cnt_mod (by omega)]
    have lc := kb_cnt_le m.testBit k
    refine nm_r (kb_bit7 _ (by omega)) ?_
    rw [kb_shr1 hl (k := k) (by omega)]
    have K : wX_rank_68 post (wX_rank_29 post (nI r) (nI l) f g a b (k + 1)) (nI r) (nI l) (nI acc) (nI k) (nI (2 ^ kb_cnt m.testBit k)) (kb_bI (l.testBit k)) f g a b := by
      refine kb_X68r (R := kb_rk v m l k) hr a1 b1 ok (by omega) (fun acc' e => ih acc' (by omega) ?_) (fun q e => ?_)
      · rw [← e]
        exact hp
      · rw [e]
        exact hp
    cases w : l.testBit k <;> rw [w] at K
    · exact br_t rfl K
    · exact br_f (by decide) K
/-- how many standing numbers do not pass L -/
def kb_C (v m : Nat) (L : Int) : Nat := kb_cnt (fun n => kb_sk v m 6 n && decide ((n : Int) ≤ L)) 64
theorem kb_Xrank {post : Int32 → Prop} {f g : Int32} {a b : Nat → Int32} {r v m : Nat} {p : Int32} (hr : r < 6) (a1 : a r = nI v) (b1 : b r = nI m) (ok : kb_ok v m) (hp : post (nI (kb_C v m p.toInt))) : wpX_rank post (f, g, a, b) (nI r) p := by
  unfold wpX_rank
  dsimp only
  have t0 : (0 : Int32).toInt = 0 := by decide
  have t63 : (63 : Int32).toInt = 63 := by decide
  refine br_c (fun c => br_c (fun c2 => ⟨7, ?_⟩) (fun c2 => ⟨kb_in hr, ?_⟩)) (fun c => ?_)
  · rw [Int32.le_iff_toInt_le, t63] at c2
    obtain ⟨l, hl, e⟩ := nI_of (x := p) (Int32.not_lt.mpr c)
    subst e
    rw [nI_toInt hl] at c2 hp
    have hl64 : l < 64 := by omega
    refine kb_X29 (l := l) hr a1 b1 ok hl64 6 0 (by omega) ?_
    have e : kb_C v m (l : Int) = kb_rk v m l 6 := by
      rw [← kb_rk_law ok 6]
      apply kb_cnt_congr
      intro i _
      rw [Nat.mod_eq_of_lt (a := l) (b := 2 ^ 6) hl64]
      by_cases w : i ≤ l
      · rw [decide_eq_true w, decide_eq_true (by omega)]
      · rw [decide_eq_false w, decide_eq_false (by omega)]
    rw [Nat.add_zero, ← e]
    exact hp
  · rw [Int32.le_iff_toInt_le, t63] at c2
    rw [kb_cl hr, b1]
    refine kb_Xbits ok.2.1 ?_
    have lc := kb_cnt_le m.testBit 6
    rw [kb_bit7 _ (by omega)]
    have e : kb_C v m p.toInt = 2 ^ kb_cnt m.testBit 6 := by
      rw [← kb_tot ok 6]
      apply kb_cnt_congr
      intro i hi
      rw [decide_eq_true (by omega), Bool.and_true]
    rw [← e]
    exact hp
  · rw [Int32.le_iff_toInt_le, t0] at c
    have e : kb_C v m p.toInt = 0 := by
      apply kb_cnt_0
      intro i hi
      rw [decide_eq_false (by omega), Bool.and_false]
    rw [e] at hp
    exact hp
def kb_P (v m : Nat) (lo hi : Int) (n : Nat) : Bool := kb_sk v m 6 n && (decide (lo ≤ (n : Int)) && decide ((n : Int) ≤ hi))
theorem kb_P_N {v m q : Nat} {lo hi : Int} (hv : v < 64) (hq : q < 64) : kb_P v m lo hi q = true ↔ kb_N v m lo hi q := by
  unfold kb_P kb_N
  rw [Bool.and_eq_true, Bool.and_eq_true, kb_sk_6 hv hq, decide_eq_true_iff, decide_eq_true_iff]
theorem kb_Xcount {post : Int32 → Prop} {f g : Int32} {a b : Nat → Int32} {r v m : Nat} {lo hi : Int32} (hr : r < 6) (a1 : a r = nI v) (b1 : b r = nI m) (ok : kb_ok v m) (hp : post (nI (kb_cnt (kb_P v m lo.toInt hi.toInt) 64))) : wpX_count post (f, g, a, b) (nI r) lo hi := by
  unfold wpX_count
  have t0 : (0 : Int32).toInt = 0 := by decide
  refine kb_Xreg (fun _ => br_c (fun c => ?_) (fun c => ?_)) (fun z => absurd ⟨r, hr, rfl⟩ z)
  · rw [Int32.le_iff_toInt_le] at c
    refine kb_Xrank hr a1 b1 ok (br_c (fun c2 => ?_) (fun c2 => ?_))
    · refine kb_Xrank hr a1 b1 ok ?_
      rw [Int32.lt_iff_toInt_lt, t0] at c2
      have e1 : (lo - 1).toInt = lo.toInt - 1 := by
        obtain ⟨j, hj, e⟩ := nI_of (x := lo) (by rw [Int32.lt_iff_toInt_lt, t0]; omega)
        subst e
        rw [nI_toInt hj] at c2
        have e : nI j - 1 = nI (j - 1) := pk_sub (b := 1) (by omega)
        rw [e, nI_toInt hj, nI_toInt (by omega)]
        omega
      have e2 : kb_cnt (kb_P v m lo.toInt hi.toInt) 64 + kb_C v m (lo - 1).toInt = kb_C v m hi.toInt := by
        rw [e1]
        apply kb_cnt_3
        intro i _
        unfold kb_P
        cases kb_sk v m 6 i
        · exact .inr (.inr ⟨rfl, rfl, rfl⟩)
        · by_cases w : (i : Int) ≤ lo.toInt - 1
          · right; left
            rw [decide_eq_true w, decide_eq_false (p := lo.toInt ≤ (i : Int)) (by omega), decide_eq_true (p := (i : Int) ≤ hi.toInt) (by omega)]
            exact ⟨rfl, rfl, rfl⟩
          · by_cases w2 : (i : Int) ≤ hi.toInt
            · left
              rw [decide_eq_false w, decide_eq_true (p := lo.toInt ≤ (i : Int)) (by omega), decide_eq_true w2]
              exact ⟨rfl, rfl, rfl⟩
            · right; right
              rw [decide_eq_false w, decide_eq_false w2, Bool.and_false]
              exact ⟨rfl, rfl, rfl⟩
      rw [pk_sub (by omega), ← e2, Nat.add_sub_cancel]
      exact hp
    · rw [Int32.lt_iff_toInt_lt, t0] at c2
      have e2 : kb_cnt (kb_P v m lo.toInt hi.toInt) 64 = kb_C v m hi.toInt := by
        apply kb_cnt_congr
        intro i _
        unfold kb_P
        rw [decide_eq_true (p := lo.toInt ≤ (i : Int)) (by omega), Bool.true_and]
      rw [← e2]
      exact hp
  · rw [Int32.le_iff_toInt_le] at c
    have e2 : kb_cnt (kb_P v m lo.toInt hi.toInt) 64 = 0 := by
      apply kb_cnt_0
      intro i _
      unfold kb_P
      by_cases w : lo.toInt ≤ (i : Int)
      · rw [decide_eq_false (p := (i : Int) ≤ hi.toInt) (by omega), Bool.and_false, Bool.and_false]
      · rw [decide_eq_false w, Bool.false_and, Bool.and_false]
    rw [e2] at hp
    exact hp
end
section
/-! ===== the component: combine ===== -/
theorem kb_Xkeep {post : SX → Prop} {f g : Int32} {a b : Nat → Int32} {r : Nat} (hr : r < 6) (hp : post (f, g, upd a r f, upd b r g)) : wpX_keep post (f, g, a, b) (nI r) := by
  unfold wpX_keep
  dsimp only
  rw [kb_cl hr]
  exact ⟨kb_in hr, nm_e ⟨kb_in hr, nm_e hp⟩⟩
theorem kb_X218 {post : Int32 → SX → Prop} {f g : Int32} {a b : Nat → Int32} {r : Nat} (hr : r < 6) (hp : post 0 (f, g, upd a r f, upd b r g)) : wX_combine_218 post (nI r) f g a b := by
  unfold wX_combine_218
  exact kb_Xkeep hr hp
theorem kb_Xcombine_bad {post : Int32 → SX → Prop} {f g : Int32} {a b : Nat → Int32} {p0 p1 p2 p3 : Int32} (h : ¬ kb_Vc p0 p1 p2 p3) (hp : post (-1) (f, g, a, b)) : wpX_combine post (f, g, a, b) p0 p1 p2 p3 := by
  unfold wpX_combine
  exact kb_Xreg (fun h0 => kb_Xreg (fun h2 => kb_Xreg (fun h3 => br_c (fun _ => hp) (fun h1 => br_c (fun h6 => absurd ⟨h0, h2, h3, h1, h6⟩ h) (fun _ => hp))) (fun _ => hp)) (fun _ => hp)) (fun _ => hp)
section
variable {post : Int32 → SX → Prop} {f g : Int32} {a b : Nat → Int32} {d ra rb va ma vb mb : Nat}
theorem kb_Xc_in {K : Int32} (hd : d < 6) (hra : ra < 6) (hrb : rb < 6) (hK : ¬ K < 0) (hK6 : K ≤ 6) (hne : ¬ K = 6) (h : wX_combine_79 post (nI d) K (nI ra) (nI rb) f g a b) : wpX_combine post (f, g, a, b) (nI d) K (nI ra) (nI rb) := by
  unfold wpX_combine
  exact kb_Xreg (fun _ => kb_Xreg (fun _ => kb_Xreg (fun _ => br_f hK (br_t hK6 (br_f hne h))) (fun z => absurd ⟨rb, hrb, rfl⟩ z)) (fun z => absurd ⟨ra, hra, rfl⟩ z)) (fun z => absurd ⟨d, hd, rfl⟩ z)
theorem kb_nsub (x y : Nat) (h : y ≤ 4294967296) : nI x - nI y = nI (x + (4294967296 - y)) := by
  rw [← nI_add]
  apply Int32.toBitVec_inj.1
  rw [Int32.toBitVec_sub, Int32.toBitVec_add]
  show BitVec.ofNat 32 x - BitVec.ofNat 32 y = BitVec.ofNat 32 x + BitVec.ofNat 32 (4294967296 - y)
  rw [BitVec.sub_eq_add_neg]
  congr 1
  apply BitVec.eq_of_toNat_eq
  rw [BitVec.toNat_neg, BitVec.toNat_ofNat, BitVec.toNat_ofNat]
  omega
theorem kb_Xc0 {nv nm : Nat} (hd : d < 6) (hra : ra < 6) (hrb : rb < 6) (a1 : a ra = nI va) (b1 : b ra = nI ma) (a2 : a rb = nI vb) (b2 : b rb = nI mb) (em : (((va + vb) ^^^ (va + vb + ma + mb)) ||| ma ||| mb) &&& 63 = nm) (ev : ((va + vb) ^^^ ((va + vb) &&& nm)) &&& 63 = nv) (hp : post 0 (nI nv, nI nm, upd a d (nI nv), upd b d (nI nm))) : wpX_combine post (f, g, a, b) (nI d) 0 (nI ra) (nI rb) := by
  refine kb_Xc_in hd hra hrb (by decide) (by decide) (by decide) (br_t rfl ?_)
  unfold wpX_add
  dsimp only
  rw [kb_cl hra, kb_cl hrb, a1, b1, a2, b2]
  refine ⟨kb_in hra, kb_in hrb, nm_r (nI_add _ _) ⟨kb_in hra, kb_in hrb, nm_r (e' := nI (va + vb + ma + mb)) (by rw [nI_add, nI_add]) ⟨kb_in hra, kb_in hrb, nm_r (e' := nI nm) (by rw [kb_xor, kb_or, kb_or, kb_63, kb_and, em]) (nm_r (e' := nI nv) (by rw [kb_andn, kb_63, kb_and, ev]) (kb_X218 hd hp))⟩⟩⟩
theorem kb_Xc1 {nv nm : Nat} (hd : d < 6) (hra : ra < 6) (hrb : rb < 6) (a1 : a ra = nI va) (b1 : b ra = nI ma) (a2 : a rb = nI vb) (b2 : b rb = nI mb) (ok1 : kb_ok va ma) (ok2 : kb_ok vb mb) (em : (((va + (4294967296 - vb) + ma) ^^^ (va + (4294967296 - vb) - mb)) ||| ma ||| mb) &&& 63 = nm) (ev : ((va + (4294967296 - vb)) ^^^ ((va + (4294967296 - vb)) &&& nm)) &&& 63 = nv) (hp : post 0 (nI nv, nI nm, upd a d (nI nv), upd b d (nI nm))) : wpX_combine post (f, g, a, b) (nI d) 1 (nI ra) (nI rb) := by
  have lb := ok2.1
  have lm := ok2.2.1
  refine kb_Xc_in hd hra hrb (by decide) (by decide) (by decide) (br_f (by decide) (br_t rfl ?_))
  unfold wpX_subtract
  dsimp only
  rw [kb_cl hra, kb_cl hrb, a1, b1, a2, b2]
  refine ⟨kb_in hra, kb_in hrb, nm_r (kb_nsub va vb (by omega)) ⟨kb_in hra, nm_r (nI_add _ _) ⟨kb_in hrb, nm_r (pk_sub (by omega)) ⟨kb_in hra, kb_in hrb, nm_r (e' := nI nm) (by rw [kb_xor, kb_or, kb_or, kb_63, kb_and, em]) (nm_r (e' := nI nv) (by rw [kb_andn, kb_63, kb_and, ev]) (kb_X218 hd hp))⟩⟩⟩⟩
theorem kb_Xc2 {nv nm : Nat} (hd : d < 6) (hra : ra < 6) (hrb : rb < 6) (a1 : a ra = nI va) (b1 : b ra = nI ma) (a2 : a rb = nI vb) (b2 : b rb = nI mb) (ev : va &&& vb = nv) (em : ((va ||| ma) &&& (vb ||| mb)) ^^^ (((va ||| ma) &&& (vb ||| mb)) &&& nv) = nm) (hp : post 0 (nI nv, nI nm, upd a d (nI nv), upd b d (nI nm))) : wpX_combine post (f, g, a, b) (nI d) 2 (nI ra) (nI rb) := by
  refine kb_Xc_in hd hra hrb (by decide) (by decide) (by decide) (br_f (by decide) (br_f (by decide) (br_f (by decide) ?_)))
  unfold wpX_bitwise
  dsimp only
  rw [kb_cl hra, kb_cl hrb, a1, b1, a2, b2]
  refine br_t rfl ⟨kb_in hra, kb_in hrb, nm_r (e' := nI nv) (by rw [kb_and, ev]) ⟨kb_in hra, kb_in hra, kb_in hrb, kb_in hrb, nm_r (e' := nI nm) (by rw [kb_or, kb_or, kb_and, kb_andn, em]) (kb_X218 hd hp)⟩⟩
theorem kb_Xc3 {nv nm : Nat} (hd : d < 6) (hra : ra < 6) (hrb : rb < 6) (a1 : a ra = nI va) (b1 : b ra = nI ma) (a2 : a rb = nI vb) (b2 : b rb = nI mb) (ev : va ||| vb = nv) (em : (ma ||| mb) ^^^ ((ma ||| mb) &&& nv) = nm) (hp : post 0 (nI nv, nI nm, upd a d (nI nv), upd b d (nI nm))) : wpX_combine post (f, g, a, b) (nI d) 3 (nI ra) (nI rb) := by
  refine kb_Xc_in hd hra hrb (by decide) (by decide) (by decide) (br_f (by decide) (br_f (by decide) (br_f (by decide) ?_)))
  unfold wpX_bitwise
  dsimp only
  rw [kb_cl hra, kb_cl hrb, a1, b1, a2, b2]
  refine br_f (by decide) (br_t rfl ⟨kb_in hra, kb_in hrb, nm_r (e' := nI nv) (by rw [kb_or, ev]) ⟨kb_in hra, kb_in hrb, nm_r (e' := nI nm) (by rw [kb_or, kb_andn, em]) (kb_X218 hd hp)⟩⟩)
theorem kb_Xc4 {nv nm : Nat} (hd : d < 6) (hra : ra < 6) (hrb : rb < 6) (a1 : a ra = nI va) (b1 : b ra = nI ma) (a2 : a rb = nI vb) (b2 : b rb = nI mb) (em : ma ||| mb = nm) (ev : (va ^^^ vb) ^^^ ((va ^^^ vb) &&& nm) = nv) (hp : post 0 (nI nv, nI nm, upd a d (nI nv), upd b d (nI nm))) : wpX_combine post (f, g, a, b) (nI d) 4 (nI ra) (nI rb) := by
  refine kb_Xc_in hd hra hrb (by decide) (by decide) (by decide) (br_f (by decide) (br_f (by decide) (br_f (by decide) ?_)))
  unfold wpX_bitwise
  dsimp only
  rw [kb_cl hra, kb_cl hrb, a1, b1, a2, b2]
  refine br_f (by decide) (br_f (by decide) ⟨kb_in hra, kb_in hrb, nm_r (e' := nI nm) (by rw [kb_or, em]) ⟨kb_in hra, kb_in hrb, nm_r (e' := nI nv) (by rw [kb_xor, kb_andn, ev]) (kb_X218 hd hp)⟩⟩)
theorem kb_Xc5 {nv nm : Nat} (hd : d < 6) (hra : ra < 6) (hrb : rb < 6) (a1 : a ra = nI va) (b1 : b ra = nI ma) (a2 : a rb = nI vb) (b2 : b rb = nI mb) (em : (ma ||| mb) ||| (va ^^^ vb) = nm) (ev : va ^^^ (va &&& nm) = nv) (hp : post 0 (nI nv, nI nm, upd a d (nI nv), upd b d (nI nm))) : wpX_combine post (f, g, a, b) (nI d) 5 (nI ra) (nI rb) := by
  refine kb_Xc_in hd hra hrb (by decide) (by decide) (by decide) ?_
  unfold wX_combine_79
  rw [kb_cl hra, kb_cl hrb, a1, b1, a2, b2]
  refine br_f (by decide) (br_f (by decide) (br_t (by decide) (br_t rfl ⟨kb_in hra, kb_in hrb, kb_in hra, kb_in hrb, nm_r (e' := nI nm) (by rw [kb_or, kb_xor, kb_or, em]) ⟨kb_in hra, nm_r (e' := nI nv) (by rw [kb_andn, ev]) (kb_X218 hd hp)⟩⟩)))
theorem kb_Xc6 {nv nm : Nat} (hd : d < 6) (hra : ra < 6) (hrb : rb < 6) (a1 : a ra = nI va) (b1 : b ra = nI ma) (a2 : a rb = nI vb) (b2 : b rb = nI mb) (ok1 : kb_ok va ma) (ok2 : kb_ok vb mb) (em : ma &&& mb = nm) (ev : va ||| vb = nv) (h0 : ((va ^^^ vb) ^^^ ((va ^^^ vb) &&& ma)) ^^^ (((va ^^^ vb) ^^^ ((va ^^^ vb) &&& ma)) &&& mb) = 0 → post 0 (nI nv, nI nm, upd a d (nI nv), upd b d (nI nm))) (h1 : ¬ ((va ^^^ vb) ^^^ ((va ^^^ vb) &&& ma)) ^^^ (((va ^^^ vb) ^^^ ((va ^^^ vb) &&& ma)) &&& mb) = 0 → post (-2) (f, g, a, b)) : wpX_combine post (f, g, a, b) (nI d) 6 (nI ra) (nI rb) := by
  unfold wpX_combine
  refine kb_Xreg (fun _ => kb_Xreg (fun _ => kb_Xreg (fun _ => br_f (by decide) (br_t (by decide) (br_t rfl ⟨kb_in hra, kb_in hrb, kb_in hra, kb_in hrb, ?_⟩))) (fun z => absurd ⟨rb, hrb, rfl⟩ z)) (fun z => absurd ⟨ra, hra, rfl⟩ z)) (fun z => absurd ⟨d, hd, rfl⟩ z)
  have l := kb_an_lt (b := mb) (kb_an_lt (b := ma) (kb_xor_lt ok1.1 ok2.1))
  rw [kb_cl hra, kb_cl hrb, a1, b1, a2, b2, kb_xor, kb_andn, kb_andn]
  rw [← nI_0, nI_eq (by omega) (by omega)]
  refine br_c (fun c => ?_) (fun c => h1 c)
  unfold wX_combine_79
  rw [kb_cl hra, kb_cl hrb, a1, b1, a2, b2]
  refine br_f (by decide) (br_f (by decide) (br_t (by decide) (br_f (by decide) ⟨kb_in hra, kb_in hrb, nm_r (e' := nI nm) (by rw [kb_and, em]) ⟨kb_in hra, kb_in hrb, nm_r (e' := nI nv) (by rw [kb_or, ev]) (kb_X218 hd (h0 c))⟩⟩)))
end
/-! ===== the component: shift ===== -/
theorem kb_Xshift_bad {post : Int32 → SX → Prop} {f g : Int32} {a b : Nat → Int32} {p0 p1 p2 : Int32} (h : ¬ kb_Vh p0 p1 p2) (hp : post (-1) (f, g, a, b)) : wpX_shift post (f, g, a, b) p0 p1 p2 := by
  unfold wpX_shift
  exact kb_Xreg (fun h0 => kb_Xreg (fun h2 => br_c (fun _ => hp) (fun h1 => br_c (fun h5 => absurd ⟨h0, h2, h1, h5⟩ h) (fun _ => hp))) (fun _ => hp)) (fun _ => hp)
theorem kb_Xshift_up {post : Int32 → SX → Prop} {f g : Int32} {a b : Nat → Int32} {d ra v m s : Nat} (hd : d < 6) (hra : ra < 6) (hs : s ≤ 6) (a1 : a ra = nI v) (b1 : b ra = nI m) (ok1 : kb_ok v m) (hp : post 0 (nI (v * 2 ^ s % 64), nI (m * 2 ^ s % 64), upd a d (nI (v * 2 ^ s % 64)), upd b d (nI (m * 2 ^ s % 64)))) : wpX_shift post (f, g, a, b) (nI d) (nI ra) (nI s) := by
  unfold wpX_shift
  have n0 : ¬ nI s < 0 := nI_pos (by omega)
  have h6 : ¬ nI s < (-6) := by rw [kb_nlt (by omega), show (-6 : Int32).toInt = -6 from by decide]; omega
  have p2 : 2 ^ s ≤ 2 ^ 6 := Nat.pow_le_pow_right (by omega) hs
  have E : ∀ z, z < 64 → (nI z <<< (nI s &&& 31)) &&& 63 = nI (z * 2 ^ s % 64) := by
    intro z hz
    have l : z * 2 ^ s ≤ 63 * 2 ^ 6 := Nat.mul_le_mul (by omega) p2
    rw [pk_shlN _ s (s_l s (by omega)) (by omega), kb_63, kb_and, kb_n63]
  refine kb_Xreg (fun _ => kb_Xreg (fun _ => br_f h6 (br_t (nI_le (b := 6) hs (by omega)) (br_f n0 ⟨kb_in hra, ?_⟩))) (fun z => absurd ⟨ra, hra, rfl⟩ z)) (fun z => absurd ⟨d, hd, rfl⟩ z)
  unfold wX_shift_56 wX_shift_87
  rw [kb_cl hra, a1, b1, E v ok1.1, E m ok1.2.1]
  exact br_f n0 ⟨kb_in hra, kb_Xkeep hd hp⟩
theorem kb_Xshift_dn {post : Int32 → SX → Prop} {f g : Int32} {a b : Nat → Int32} {d ra v m s : Nat} (hd : d < 6) (hra : ra < 6) (hs0 : 0 < s) (hs : s ≤ 6) (a1 : a ra = nI v) (b1 : b ra = nI m) (ok1 : kb_ok v m) (hp : post 0 (nI (v / 2 ^ s), nI (m / 2 ^ s), upd a d (nI (v / 2 ^ s)), upd b d (nI (m / 2 ^ s)))) : wpX_shift post (f, g, a, b) (nI d) (nI ra) (-nI s) := by
  unfold wpX_shift
  have C : ∀ s, s ≤ 6 → 0 < s → -nI s < 0 ∧ ¬ -nI s < (-6) ∧ -nI s ≤ 6 ∧ -(-nI s) = nI s := by decide +kernel
  obtain ⟨c1, c2, c3, c5⟩ := C s hs hs0
  have E : ∀ z, z < 64 → (nI z >>> (nI s &&& 31)) = nI (z / 2 ^ s) := by
    intro z hz
    exact pk_shrN (by omega) _ s (s_l s (by omega))
  refine kb_Xreg (fun _ => kb_Xreg (fun _ => br_f c2 (br_t c3 (br_t c1 ⟨kb_in hra, ?_⟩))) (fun z => absurd ⟨ra, hra, rfl⟩ z)) (fun z => absurd ⟨d, hd, rfl⟩ z)
  unfold wX_shift_56 wX_shift_87
  rw [kb_cl hra, a1, b1, c5, E v ok1.1, E m ok1.2.1]
  exact br_t c1 ⟨kb_in hra, kb_Xkeep hd hp⟩
end
section
/-! ===== the plain laws: the seven kinds ===== -/
theorem kb_63bit {k : Nat} (hk : k < 6) : (63 : Nat).testBit k = true := by
  have e : (63 : Nat) = 2 ^ 6 - 1 := rfl
  rw [e, Nat.testBit_two_pow_sub_one, decide_eq_true hk]
theorem kb_m64 {n k : Nat} (hk : k < 6) : (n % 64).testBit k = n.testBit k := by
  have e : (64 : Nat) = 2 ^ 6 := rfl
  rw [e, Nat.testBit_mod_two_pow, decide_eq_true hk, Bool.true_and]
theorem kb_ne {a b : Bool} (h : ¬ a = b) : a = !b := by
  revert h
  cases a <;> cases b <;> simp
section
variable {va ma vb mb : Nat}
theorem kb_best_fun {fn : Nat → Nat → Nat} {v m : Nat} (ok1 : kb_ok va ma) (ok2 : kb_ok vb mb) (hf : ∀ x y, x < 64 → y < 64 → fn x y < 64) (hv : v < 64) (hm : m < 64)
    (off : ∀ k, k < 6 → m.testBit k = false → ∀ x y, kb_st va ma x → kb_st vb mb y → (fn x y).testBit k = v.testBit k)
    (on : ∀ k, k < 6 → m.testBit k = true → v.testBit k = false ∧ ∃ x y x' y', x < 64 ∧ y < 64 ∧ x' < 64 ∧ y' < 64 ∧ kb_st va ma x ∧ kb_st vb mb y ∧ kb_st va ma x' ∧ kb_st vb mb y' ∧ (fn x y).testBit k ≠ (fn x' y').testBit k) :
    kb_best (kb_S va ma vb mb (fun x y q => q = fn x y)) v m := by
  refine ⟨hv, hm, ⟨fn va vb, hf _ _ ok1.1 ok2.1, va, vb, ok1.1, ok2.1, kb_st_v ok1, kb_st_v ok2, rfl⟩, fun k hk => ⟨fun z n _ hn => ?_, fun z => ?_⟩⟩
  · obtain ⟨x, y, _, _, g1, g2, e⟩ := hn
    rw [e]
    exact off k hk z x y g1 g2
  · obtain ⟨e, x, y, x', y', l1, l2, l3, l4, g1, g2, g3, g4, ne⟩ := on k hk z
    exact ⟨e, fn x y, fn x' y', hf _ _ l1 l2, hf _ _ l3 l4, ⟨x, y, l1, l2, g1, g2, rfl⟩, ⟨x', y', l3, l4, g3, g4, rfl⟩, ne⟩
/-! carries -/
theorem kb_addbit (x y k : Nat) : (x + y).testBit k = ((x.testBit k ^^ y.testBit k) ^^ decide (2 ^ k ≤ x % 2 ^ k + y % 2 ^ k)) := by
  rw [Nat.testBit_eq_decide_div_mod_eq, Nat.testBit_eq_decide_div_mod_eq, Nat.testBit_eq_decide_div_mod_eq, Nat.add_div (Nat.two_pow_pos k)]
  generalize x / 2 ^ k = p
  generalize y / 2 ^ k = q
  by_cases c : 2 ^ k ≤ x % 2 ^ k + y % 2 ^ k
  · rw [if_pos c, decide_eq_true c]
    rcases Nat.mod_two_eq_zero_or_one p with h | h <;> rcases Nat.mod_two_eq_zero_or_one q with g | g
    · rw [h, g, decide_eq_true (by omega)]; rfl
    · rw [h, g, decide_eq_false (by omega)]; rfl
    · rw [h, g, decide_eq_false (by omega)]; rfl
    · rw [h, g, decide_eq_true (by omega)]; rfl
  · rw [if_neg c, decide_eq_false c]
    rcases Nat.mod_two_eq_zero_or_one p with h | h <;> rcases Nat.mod_two_eq_zero_or_one q with g | g
    · rw [h, g, decide_eq_false (by omega)]; rfl
    · rw [h, g, decide_eq_true (by omega)]; rfl
    · rw [h, g, decide_eq_true (by omega)]; rfl
    · rw [h, g, decide_eq_false (by omega)]; rfl
theorem kb_subbit {x y k : Nat} (hy : y < 64) (hk : k < 6) : (x + (4294967296 - y)).testBit k = ((x.testBit k ^^ y.testBit k) ^^ decide (x % 2 ^ k < y % 2 ^ k)) := by
  generalize hz : x + (4294967296 - y) = z
  have e : z + y = 2 ^ 32 + x := by
    have : (2 : Nat) ^ 32 = 4294967296 := rfl
    omega
  have e1 : (z + y).testBit k = x.testBit k := by
    rw [e]
    exact Nat.testBit_two_pow_add_gt (by omega) x
  have e2 : (z + y) % 2 ^ k = x % 2 ^ k := by
    rw [e]
    have : (2 : Nat) ^ 32 = 2 ^ k * 2 ^ (32 - k) := by
      rw [← Nat.pow_add]
      congr 1
      omega
    rw [this, Nat.add_comm, Nat.add_mul_mod_self_left]
  have dp := Nat.two_pow_pos k
  have lz := Nat.mod_lt z dp
  have ly := Nat.mod_lt y dp
  rw [Nat.add_mod] at e2
  rw [kb_addbit] at e1
  have c : decide (2 ^ k ≤ z % 2 ^ k + y % 2 ^ k) = decide (x % 2 ^ k < y % 2 ^ k) := by
    by_cases w : 2 ^ k ≤ z % 2 ^ k + y % 2 ^ k
    · rw [Nat.mod_eq_sub_mod w, Nat.mod_eq_of_lt (by omega)] at e2
      rw [decide_eq_true w, decide_eq_true (by omega)]
    · rw [Nat.mod_eq_of_lt (by omega)] at e2
      rw [decide_eq_false w, decide_eq_false (by omega)]
  rw [c] at e1
  rw [← e1]
  cases z.testBit k <;> cases y.testBit k <;> cases decide (x % 2 ^ k < y % 2 ^ k) <;> rfl
theorem kb_mod_mono {x y k : Nat} (h : ∀ i, x.testBit i = true → y.testBit i = true) : x % 2 ^ k ≤ y % 2 ^ k := by
  apply Nat.le_of_testBit
  intro i hi
  rw [Nat.testBit_mod_two_pow, Bool.and_eq_true] at hi
  rw [Nat.testBit_mod_two_pow, hi.1, h i hi.2]
  rfl
theorem kb_st_mlo {v m x : Nat} (h : kb_st v m x) (k : Nat) : v % 2 ^ k ≤ x % 2 ^ k := by
  apply kb_mod_mono
  intro i hi
  rw [kb_st_bit h i, Bool.and_eq_true] at hi
  exact hi.1
theorem kb_st_mhi {v m x : Nat} (h : kb_st v m x) (k : Nat) : x % 2 ^ k ≤ (v ||| m) % 2 ^ k := by
  apply kb_mod_mono
  intro i hi
  rw [Nat.testBit_or, kb_st_bit h i, hi]
  cases m.testBit i <;> rfl
theorem kb_addor : ∀ v, v < 64 → ∀ m, m < 64 → v &&& m = 0 → v + m = v ||| m := by decide +kernel
theorem kb_flip_mod (x k : Nat) : (x ^^^ 2 ^ k) % 2 ^ k = x % 2 ^ k := by
  apply Nat.eq_of_testBit_eq
  intro i
  rw [Nat.testBit_mod_two_pow, Nat.testBit_mod_two_pow, Nat.testBit_xor]
  by_cases w : i < k
  · rw [Nat.testBit_two_pow_of_ne (by omega), Bool.xor_false]
  · rw [decide_eq_false w, Bool.false_and, Bool.false_and]
theorem kb_not_ne (b : Bool) : b ≠ !b := by cases b <;> simp
theorem kb_xnot (a b : Bool) : ((!a) ^^ b) = !(a ^^ b) := by cases a <;> cases b <;> rfl
theorem kb_nmbit {p q m1 m2 k : Nat} (hk : k < 6) : (((p ^^^ q) ||| m1 ||| m2) &&& 63).testBit k = (((p.testBit k ^^ q.testBit k) || m1.testBit k) || m2.testBit k) := by
  rw [Nat.testBit_and, kb_63bit hk, Bool.and_true, Nat.testBit_or, Nat.testBit_or, Nat.testBit_xor]
theorem kb_nvbit {p nm k : Nat} (hk : k < 6) : ((p ^^^ (p &&& nm)) &&& 63).testBit k = (p.testBit k && !nm.testBit k) := by
  rw [Nat.testBit_and, kb_63bit hk, Bool.and_true, Nat.testBit_xor, Nat.testBit_and]
  cases p.testBit k <;> cases nm.testBit k <;> rfl
theorem kb_or3 {a b c : Bool} (h : ((a || b) || c) = false) : a = false ∧ b = false ∧ c = false := by
  revert h
  cases a <;> cases b <;> cases c <;> simp
theorem kb_law0 {nv nm : Nat} (ok1 : kb_ok va ma) (ok2 : kb_ok vb mb) (em : (((va + vb) ^^^ (va + vb + ma + mb)) ||| ma ||| mb) &&& 63 = nm) (ev : ((va + vb) ^^^ ((va + vb) &&& nm)) &&& 63 = nv) : kb_best (kb_S va ma vb mb (fun x y q => q = (x + y) % 64)) nv nm := by
  have eA := kb_addor va ok1.1 ma ok1.2.1 ok1.2.2
  have eB := kb_addor vb ok2.1 mb ok2.2.1 ok2.2.2
  have eM : va + vb + ma + mb = (va ||| ma) + (vb ||| mb) := by omega
  rw [eM] at em
  have bm : ∀ k, k < 6 → nm.testBit k = ((((va + vb).testBit k ^^ ((va ||| ma) + (vb ||| mb)).testBit k) || ma.testBit k) || mb.testBit k) := fun k hk => by rw [← em, kb_nmbit hk]
  have bv : ∀ k, k < 6 → nv.testBit k = ((va + vb).testBit k && !nm.testBit k) := fun k hk => by rw [← ev, kb_nvbit hk]
  refine kb_best_fun ok1 ok2 (fun x y _ _ => Nat.mod_lt _ (by omega)) ?_ ?_ (fun k hk z x y g1 g2 => ?_) (fun k hk z => ⟨?_, ?_⟩)
  · rw [← ev]; exact kb_and_lt (by omega)
  · rw [← em]; exact kb_and_lt (by omega)
  · rw [kb_m64 hk, bv k hk, z, Bool.not_false, Bool.and_true]
    rw [bm k hk] at z
    obtain ⟨z1, z2, z3⟩ := kb_or3 z
    rw [kb_addbit, kb_addbit, Nat.testBit_or, Nat.testBit_or, z2, z3, Bool.or_false, Bool.or_false] at z1
    rw [kb_addbit, kb_addbit, kb_st_off g1 z2, kb_st_off g2 z3]
    congr 1
    have c1 := kb_st_mlo g1 k
    have c2 := kb_st_mlo g2 k
    have c3 := kb_st_mhi g1 k
    have c4 := kb_st_mhi g2 k
    by_cases w : 2 ^ k ≤ va % 2 ^ k + vb % 2 ^ k
    · rw [decide_eq_true w, decide_eq_true (by omega)]
    · rw [decide_eq_false w] at z1
      rw [decide_eq_false w]
      apply decide_eq_false
      intro w2
      rw [decide_eq_true (p := 2 ^ k ≤ (va ||| ma) % 2 ^ k + (vb ||| mb) % 2 ^ k) (by omega)] at z1
      revert z1
      cases va.testBit k <;> cases vb.testBit k <;> simp
  · rw [bv k hk, z]
    cases (va + vb).testBit k <;> rfl
  · cases w1 : ma.testBit k
    · cases w2 : mb.testBit k
      · rw [bm k hk, w1, w2, Bool.or_false, Bool.or_false] at z
        refine ⟨va, vb, va ||| ma, vb ||| mb, ok1.1, ok2.1, kb_or_lt ok1.1 ok1.2.1, kb_or_lt ok2.1 ok2.2.1, kb_st_v ok1, kb_st_v ok2, kb_st_vm ok1, kb_st_vm ok2, ?_⟩
        rw [kb_m64 hk, kb_m64 hk]
        intro e
        rw [e] at z
        simp at z
      · refine ⟨va, vb, va, vb ^^^ 2 ^ k, ok1.1, ok2.1, ok1.1, kb_flip_lt ok2.1 hk, kb_st_v ok1, kb_st_v ok2, kb_st_v ok1, kb_st_flip (kb_st_v ok2) w2, ?_⟩
        rw [kb_m64 hk, kb_m64 hk, kb_addbit, kb_addbit, kb_flip_mod, kb_flip_bit, Bool.xor_comm (va.testBit k) (!vb.testBit k), Bool.xor_comm (va.testBit k) (vb.testBit k), kb_xnot, kb_xnot]
        exact kb_not_ne _
    · refine ⟨va, vb, va ^^^ 2 ^ k, vb, ok1.1, ok2.1, kb_flip_lt ok1.1 hk, ok2.1, kb_st_v ok1, kb_st_v ok2, kb_st_flip (kb_st_v ok1) w1, kb_st_v ok2, ?_⟩
      rw [kb_m64 hk, kb_m64 hk, kb_addbit, kb_addbit, kb_flip_mod, kb_flip_bit, kb_xnot, kb_xnot]
      exact kb_not_ne _
theorem kb_law1 {nv nm : Nat} (ok1 : kb_ok va ma) (ok2 : kb_ok vb mb) (em : (((va + (4294967296 - vb) + ma) ^^^ (va + (4294967296 - vb) - mb)) ||| ma ||| mb) &&& 63 = nm) (ev : ((va + (4294967296 - vb)) ^^^ ((va + (4294967296 - vb)) &&& nm)) &&& 63 = nv) : kb_best (kb_S va ma vb mb (fun x y q => q = (x + 64 - y) % 64)) nv nm := by
  have eA := kb_addor va ok1.1 ma ok1.2.1 ok1.2.2
  have eB := kb_addor vb ok2.1 mb ok2.2.1 ok2.2.2
  have lB := kb_or_lt ok2.1 ok2.2.1
  have lv := ok2.1
  have e1 : va + (4294967296 - vb) + ma = (va ||| ma) + (4294967296 - vb) := by omega
  have e2 : va + (4294967296 - vb) - mb = va + (4294967296 - (vb ||| mb)) := by omega
  rw [e1, e2] at em
  have eF : ∀ x y, y < 64 → (x + 64 - y) % 64 = (x + (4294967296 - y)) % 64 := fun x y h => by omega
  have bm : ∀ k, k < 6 → nm.testBit k = (((((va ||| ma) + (4294967296 - vb)).testBit k ^^ (va + (4294967296 - (vb ||| mb))).testBit k) || ma.testBit k) || mb.testBit k) := fun k hk => by rw [← em, kb_nmbit hk]
  have bv : ∀ k, k < 6 → nv.testBit k = ((va + (4294967296 - vb)).testBit k && !nm.testBit k) := fun k hk => by rw [← ev, kb_nvbit hk]
  refine kb_best_fun ok1 ok2 (fun x y _ _ => Nat.mod_lt _ (by omega)) ?_ ?_ (fun k hk z x y g1 g2 => ?_) (fun k hk z => ⟨?_, ?_⟩)
  · rw [← ev]; exact kb_and_lt (by omega)
  · rw [← em]; exact kb_and_lt (by omega)
  · have ly : y < 64 := Nat.lt_of_le_of_lt (kb_st_le g2) lB
    rw [eF x y ly, kb_m64 hk, bv k hk, z, Bool.not_false, Bool.and_true]
    rw [bm k hk] at z
    obtain ⟨z1, z2, z3⟩ := kb_or3 z
    rw [kb_subbit lv hk, kb_subbit lB hk, Nat.testBit_or, Nat.testBit_or, z2, z3, Bool.or_false, Bool.or_false] at z1
    rw [kb_subbit ly hk, kb_subbit lv hk, kb_st_off g1 z2, kb_st_off g2 z3]
    congr 1
    have c1 := kb_st_mlo g1 k
    have c2 := kb_st_mlo g2 k
    have c3 := kb_st_mhi g1 k
    have c4 := kb_st_mhi g2 k
    have c5 := kb_st_mhi (kb_st_v ok1) k
    have c6 := kb_st_mhi (kb_st_v ok2) k
    have same : decide ((va ||| ma) % 2 ^ k < vb % 2 ^ k) = decide (va % 2 ^ k < (vb ||| mb) % 2 ^ k) := by
      revert z1
      cases va.testBit k <;> cases vb.testBit k <;> cases decide ((va ||| ma) % 2 ^ k < vb % 2 ^ k) <;> cases decide (va % 2 ^ k < (vb ||| mb) % 2 ^ k) <;> simp
    by_cases w : (va ||| ma) % 2 ^ k < vb % 2 ^ k
    · rw [decide_eq_true (by omega), decide_eq_true (by omega)]
    · rw [decide_eq_false w] at same
      have w2 := of_decide_eq_false same.symm
      rw [decide_eq_false (by omega), decide_eq_false (by omega)]
  · rw [bv k hk, z]
    cases (va + (4294967296 - vb)).testBit k <;> rfl
  · cases w1 : ma.testBit k
    · cases w2 : mb.testBit k
      · rw [bm k hk, w1, w2, Bool.or_false, Bool.or_false] at z
        refine ⟨va ||| ma, vb, va, vb ||| mb, kb_or_lt ok1.1 ok1.2.1, ok2.1, ok1.1, lB, kb_st_vm ok1, kb_st_v ok2, kb_st_v ok1, kb_st_vm ok2, ?_⟩
        rw [eF _ _ lv, eF _ _ lB, kb_m64 hk, kb_m64 hk]
        intro e
        rw [e] at z
        simp at z
      · have lf := kb_flip_lt (k := k) ok2.1 hk
        refine ⟨va, vb, va, vb ^^^ 2 ^ k, ok1.1, ok2.1, ok1.1, lf, kb_st_v ok1, kb_st_v ok2, kb_st_v ok1, kb_st_flip (kb_st_v ok2) w2, ?_⟩
        rw [eF _ _ lv, eF _ _ lf, kb_m64 hk, kb_m64 hk, kb_subbit lv hk, kb_subbit lf hk, kb_flip_mod, kb_flip_bit, Bool.xor_comm (va.testBit k) (!vb.testBit k), Bool.xor_comm (va.testBit k) (vb.testBit k), kb_xnot, kb_xnot]
        exact kb_not_ne _
    · refine ⟨va, vb, va ^^^ 2 ^ k, vb, ok1.1, ok2.1, kb_flip_lt ok1.1 hk, ok2.1, kb_st_v ok1, kb_st_v ok2, kb_st_flip (kb_st_v ok1) w1, kb_st_v ok2, ?_⟩
      rw [eF _ _ lv, eF _ _ lv, kb_m64 hk, kb_m64 hk, kb_subbit lv hk, kb_subbit lv hk, kb_flip_mod, kb_flip_bit, kb_xnot, kb_xnot]
      exact kb_not_ne _
end
end
section
/-! ===== the plain laws: bitwise, join, meet, shifts ===== -/
section
variable {va ma vb mb : Nat}
theorem kb_law2 {nv nm : Nat} (ok1 : kb_ok va ma) (ok2 : kb_ok vb mb) (ev : va &&& vb = nv) (em : ((va ||| ma) &&& (vb ||| mb)) ^^^ (((va ||| ma) &&& (vb ||| mb)) &&& nv) = nm) : kb_best (kb_S va ma vb mb (fun x y q => q = x &&& y)) nv nm := by
  have bv : ∀ k, nv.testBit k = (va.testBit k && vb.testBit k) := fun k => by rw [← ev, Nat.testBit_and]
  have bm : ∀ k, nm.testBit k = (((va.testBit k || ma.testBit k) && (vb.testBit k || mb.testBit k)) && !(va.testBit k && vb.testBit k)) := fun k => by
    rw [← em]
    simp only [Nat.testBit_xor, Nat.testBit_and, Nat.testBit_or, bv]
    cases va.testBit k <;> cases vb.testBit k <;> cases ma.testBit k <;> cases mb.testBit k <;> rfl
  refine kb_best_fun ok1 ok2 (fun x y _ hy => kb_and_lt hy) ?_ ?_ (fun k hk z x y g1 g2 => ?_) (fun k hk z => ⟨?_, ?_⟩)
  · rw [← ev]; exact kb_and_lt ok2.1
  · rw [← em]; exact kb_an_lt (kb_and_lt (kb_or_lt ok2.1 ok2.2.1))
  · have e1 := kb_st_bit g1 k
    have e2 := kb_st_bit g2 k
    have o1 := kb_ok_bit ok1 k
    have o2 := kb_ok_bit ok2 k
    rw [bm k] at z
    rw [bv k, Nat.testBit_and]
    revert e1 e2 o1 o2 z
    cases va.testBit k <;> cases vb.testBit k <;> cases ma.testBit k <;> cases mb.testBit k <;> cases x.testBit k <;> cases y.testBit k <;> simp
  · rw [bm k] at z
    rw [bv k]
    revert z
    cases va.testBit k <;> cases vb.testBit k <;> simp
  · refine ⟨va, vb, va ||| ma, vb ||| mb, ok1.1, ok2.1, kb_or_lt ok1.1 ok1.2.1, kb_or_lt ok2.1 ok2.2.1, kb_st_v ok1, kb_st_v ok2, kb_st_vm ok1, kb_st_vm ok2, ?_⟩
    rw [bm k] at z
    rw [Nat.testBit_and, Nat.testBit_and, Nat.testBit_or, Nat.testBit_or]
    revert z
    cases va.testBit k <;> cases vb.testBit k <;> cases ma.testBit k <;> cases mb.testBit k <;> simp
theorem kb_law3 {nv nm : Nat} (ok1 : kb_ok va ma) (ok2 : kb_ok vb mb) (ev : va ||| vb = nv) (em : (ma ||| mb) ^^^ ((ma ||| mb) &&& nv) = nm) : kb_best (kb_S va ma vb mb (fun x y q => q = x ||| y)) nv nm := by
  have bv : ∀ k, nv.testBit k = (va.testBit k || vb.testBit k) := fun k => by rw [← ev, Nat.testBit_or]
  have bm : ∀ k, nm.testBit k = ((ma.testBit k || mb.testBit k) && !(va.testBit k || vb.testBit k)) := fun k => by
    rw [← em, Nat.testBit_xor, Nat.testBit_and, Nat.testBit_or, bv]
    cases va.testBit k <;> cases vb.testBit k <;> cases ma.testBit k <;> cases mb.testBit k <;> rfl
  refine kb_best_fun ok1 ok2 (fun x y hx hy => kb_or_lt hx hy) ?_ ?_ (fun k hk z x y g1 g2 => ?_) (fun k hk z => ⟨?_, ?_⟩)
  · rw [← ev]; exact kb_or_lt ok1.1 ok2.1
  · rw [← em]; exact kb_an_lt (kb_or_lt ok1.2.1 ok2.2.1)
  · have e1 := kb_st_bit g1 k
    have e2 := kb_st_bit g2 k
    rw [bm k] at z
    rw [bv k, Nat.testBit_or]
    revert e1 e2 z
    cases va.testBit k <;> cases vb.testBit k <;> cases ma.testBit k <;> cases mb.testBit k <;> cases x.testBit k <;> cases y.testBit k <;> simp
  · rw [bm k] at z
    rw [bv k]
    revert z
    cases va.testBit k <;> cases vb.testBit k <;> simp
  · refine ⟨va, vb, va ||| ma, vb ||| mb, ok1.1, ok2.1, kb_or_lt ok1.1 ok1.2.1, kb_or_lt ok2.1 ok2.2.1, kb_st_v ok1, kb_st_v ok2, kb_st_vm ok1, kb_st_vm ok2, ?_⟩
    rw [bm k] at z
    rw [Nat.testBit_or, Nat.testBit_or, Nat.testBit_or, Nat.testBit_or]
    revert z
    cases va.testBit k <;> cases vb.testBit k <;> cases ma.testBit k <;> cases mb.testBit k <;> simp
theorem kb_law4 {nv nm : Nat} (ok1 : kb_ok va ma) (ok2 : kb_ok vb mb) (em : ma ||| mb = nm) (ev : (va ^^^ vb) ^^^ ((va ^^^ vb) &&& nm) = nv) : kb_best (kb_S va ma vb mb (fun x y q => q = x ^^^ y)) nv nm := by
  have bm : ∀ k, nm.testBit k = (ma.testBit k || mb.testBit k) := fun k => by rw [← em, Nat.testBit_or]
  have bv : ∀ k, nv.testBit k = ((va.testBit k ^^ vb.testBit k) && !(ma.testBit k || mb.testBit k)) := fun k => by
    rw [← ev, Nat.testBit_xor, Nat.testBit_and, Nat.testBit_xor, bm]
    cases va.testBit k <;> cases vb.testBit k <;> cases ma.testBit k <;> cases mb.testBit k <;> rfl
  refine kb_best_fun ok1 ok2 (fun x y hx hy => kb_xor_lt hx hy) ?_ ?_ (fun k hk z x y g1 g2 => ?_) (fun k hk z => ⟨?_, ?_⟩)
  · rw [← ev]; exact kb_an_lt (kb_xor_lt ok1.1 ok2.1)
  · rw [← em]; exact kb_or_lt ok1.2.1 ok2.2.1
  · have e1 := kb_st_bit g1 k
    have e2 := kb_st_bit g2 k
    rw [bm k] at z
    rw [bv k, Nat.testBit_xor]
    revert e1 e2 z
    cases va.testBit k <;> cases vb.testBit k <;> cases ma.testBit k <;> cases mb.testBit k <;> cases x.testBit k <;> cases y.testBit k <;> simp
  · rw [bm k] at z
    rw [bv k, z]
    cases va.testBit k <;> cases vb.testBit k <;> rfl
  · rw [bm k, Bool.or_eq_true] at z
    rcases z with z | z
    · refine ⟨va, vb, va ^^^ 2 ^ k, vb, ok1.1, ok2.1, kb_flip_lt ok1.1 hk, ok2.1, kb_st_v ok1, kb_st_v ok2, kb_st_flip (kb_st_v ok1) z, kb_st_v ok2, ?_⟩
      rw [Nat.testBit_xor, Nat.testBit_xor, kb_flip_bit]
      cases va.testBit k <;> cases vb.testBit k <;> simp
    · refine ⟨va, vb, va, vb ^^^ 2 ^ k, ok1.1, ok2.1, ok1.1, kb_flip_lt ok2.1 hk, kb_st_v ok1, kb_st_v ok2, kb_st_v ok1, kb_st_flip (kb_st_v ok2) z, ?_⟩
      rw [Nat.testBit_xor, Nat.testBit_xor, kb_flip_bit]
      cases va.testBit k <;> cases vb.testBit k <;> simp
theorem kb_law5 {nv nm : Nat} (ok1 : kb_ok va ma) (ok2 : kb_ok vb mb) (em : (ma ||| mb) ||| (va ^^^ vb) = nm) (ev : va ^^^ (va &&& nm) = nv) : kb_best (kb_S va ma vb mb (fun x y q => q = x ∨ q = y)) nv nm := by
  have bm : ∀ k, nm.testBit k = ((ma.testBit k || mb.testBit k) || (va.testBit k ^^ vb.testBit k)) := fun k => by rw [← em, Nat.testBit_or, Nat.testBit_or, Nat.testBit_xor]
  have bv : ∀ k, nv.testBit k = (va.testBit k && !nm.testBit k) := fun k => by
    rw [← ev, Nat.testBit_xor, Nat.testBit_and]
    cases va.testBit k <;> cases nm.testBit k <;> rfl
  have inA : ∀ q, q < 64 → kb_st va ma q → kb_S va ma vb mb (fun x y q => q = x ∨ q = y) q := fun q hq g => ⟨q, vb, hq, ok2.1, g, kb_st_v ok2, .inl rfl⟩
  have inB : ∀ q, q < 64 → kb_st vb mb q → kb_S va ma vb mb (fun x y q => q = x ∨ q = y) q := fun q hq g => ⟨va, q, ok1.1, hq, kb_st_v ok1, g, .inr rfl⟩
  refine ⟨?_, ?_, ⟨va, ok1.1, inA va ok1.1 (kb_st_v ok1)⟩, fun k hk => ⟨fun z n _ hn => ?_, fun z => ⟨?_, ?_⟩⟩⟩
  · rw [← ev]; exact kb_an_lt ok1.1
  · rw [← em]; exact kb_or_lt (kb_or_lt ok1.2.1 ok2.2.1) (kb_xor_lt ok1.1 ok2.1)
  · obtain ⟨x, y, _, _, g1, g2, e⟩ := hn
    have e1 := kb_st_bit g1 k
    have e2 := kb_st_bit g2 k
    rw [bv k, z]
    rw [bm k] at z
    rcases e with e | e <;> subst e
    · revert e1 e2 z
      cases va.testBit k <;> cases vb.testBit k <;> cases ma.testBit k <;> cases mb.testBit k <;> cases n.testBit k <;> simp
    · revert e1 e2 z
      cases va.testBit k <;> cases vb.testBit k <;> cases ma.testBit k <;> cases mb.testBit k <;> cases n.testBit k <;> simp
  · rw [bv k, z]
    cases va.testBit k <;> rfl
  · cases w1 : ma.testBit k
    · cases w2 : mb.testBit k
      · rw [bm k, w1, w2] at z
        refine ⟨va, vb, ok1.1, ok2.1, inA _ ok1.1 (kb_st_v ok1), inB _ ok2.1 (kb_st_v ok2), ?_⟩
        revert z
        cases va.testBit k <;> cases vb.testBit k <;> simp
      · refine ⟨vb, vb ^^^ 2 ^ k, ok2.1, kb_flip_lt ok2.1 hk, inB _ ok2.1 (kb_st_v ok2), inB _ (kb_flip_lt ok2.1 hk) (kb_st_flip (kb_st_v ok2) w2), ?_⟩
        rw [kb_flip_bit]
        exact kb_not_ne _
    · refine ⟨va, va ^^^ 2 ^ k, ok1.1, kb_flip_lt ok1.1 hk, inA _ ok1.1 (kb_st_v ok1), inA _ (kb_flip_lt ok1.1 hk) (kb_st_flip (kb_st_v ok1) w1), ?_⟩
      rw [kb_flip_bit]
      exact kb_not_ne _
/-- the numbers that both patterns stand for -/
theorem kb_disj : ((va ^^^ vb) ^^^ ((va ^^^ vb) &&& ma)) ^^^ (((va ^^^ vb) ^^^ ((va ^^^ vb) &&& ma)) &&& mb) = 0 ↔ ∀ k, ma.testBit k = false → mb.testBit k = false → va.testBit k = vb.testBit k := by
  have bit : ∀ k, (((va ^^^ vb) ^^^ ((va ^^^ vb) &&& ma)) ^^^ (((va ^^^ vb) ^^^ ((va ^^^ vb) &&& ma)) &&& mb)).testBit k = (((va.testBit k ^^ vb.testBit k) && !ma.testBit k) && !mb.testBit k) := by
    intro k
    rw [Nat.testBit_xor, Nat.testBit_and, Nat.testBit_xor, Nat.testBit_and, Nat.testBit_xor]
    cases va.testBit k <;> cases vb.testBit k <;> cases ma.testBit k <;> cases mb.testBit k <;> rfl
  constructor
  · intro h k z1 z2
    have e := bit k
    rw [h, Nat.zero_testBit, z1, z2] at e
    revert e
    cases va.testBit k <;> cases vb.testBit k <;> simp
  · intro h
    apply Nat.eq_of_testBit_eq
    intro k
    rw [bit k, Nat.zero_testBit]
    have e := h k
    revert e
    cases va.testBit k <;> cases vb.testBit k <;> cases ma.testBit k <;> cases mb.testBit k <;> simp
theorem kb_meet_no (h : ¬ ((va ^^^ vb) ^^^ ((va ^^^ vb) &&& ma)) ^^^ (((va ^^^ vb) ^^^ ((va ^^^ vb) &&& ma)) &&& mb) = 0) (q : Nat) (g1 : kb_st va ma q) (g2 : kb_st vb mb q) : False := by
  apply h
  rw [kb_disj]
  intro k z1 z2
  rw [← kb_st_off g1 z1, ← kb_st_off g2 z2]
theorem kb_meet_v (ok1 : kb_ok va ma) (ok2 : kb_ok vb mb) (h : ((va ^^^ vb) ^^^ ((va ^^^ vb) &&& ma)) ^^^ (((va ^^^ vb) ^^^ ((va ^^^ vb) &&& ma)) &&& mb) = 0) : kb_st va ma (va ||| vb) ∧ kb_st vb mb (va ||| vb) := by
  rw [kb_disj] at h
  constructor
  · apply kb_st_of
    intro k
    have e := h k
    have o1 := kb_ok_bit ok1 k
    have o2 := kb_ok_bit ok2 k
    rw [Nat.testBit_or]
    revert e o1 o2
    cases va.testBit k <;> cases vb.testBit k <;> cases ma.testBit k <;> cases mb.testBit k <;> simp
  · apply kb_st_of
    intro k
    have e := h k
    have o1 := kb_ok_bit ok1 k
    have o2 := kb_ok_bit ok2 k
    rw [Nat.testBit_or]
    revert e o1 o2
    cases va.testBit k <;> cases vb.testBit k <;> cases ma.testBit k <;> cases mb.testBit k <;> simp
theorem kb_meet {nv nm : Nat} (ok1 : kb_ok va ma) (ok2 : kb_ok vb mb) (h : ((va ^^^ vb) ^^^ ((va ^^^ vb) &&& ma)) ^^^ (((va ^^^ vb) ^^^ ((va ^^^ vb) &&& ma)) &&& mb) = 0) (em : ma &&& mb = nm) (ev : va ||| vb = nv) : kb_best (fun q => kb_st va ma q ∧ kb_st vb mb q) nv nm := by
  have W := kb_meet_v ok1 ok2 h
  have lw := kb_or_lt ok1.1 ok2.1
  rw [kb_disj] at h
  have bm : ∀ k, nm.testBit k = (ma.testBit k && mb.testBit k) := fun k => by rw [← em, Nat.testBit_and]
  have bv : ∀ k, nv.testBit k = (va.testBit k || vb.testBit k) := fun k => by rw [← ev, Nat.testBit_or]
  refine ⟨?_, ?_, ⟨va ||| vb, lw, W⟩, fun k hk => ⟨fun z n _ hn => ?_, fun z => ⟨?_, ?_⟩⟩⟩
  · rw [← ev]; exact lw
  · rw [← em]; exact kb_and_lt ok2.2.1
  · have e1 := kb_st_bit hn.1 k
    have e2 := kb_st_bit hn.2 k
    have o1 := kb_ok_bit ok1 k
    have o2 := kb_ok_bit ok2 k
    have e := h k
    rw [bv k]
    rw [bm k] at z
    revert e1 e2 z o1 o2 e
    cases va.testBit k <;> cases vb.testBit k <;> cases ma.testBit k <;> cases mb.testBit k <;> cases n.testBit k <;> simp
  · rw [bm k, Bool.and_eq_true] at z
    rw [bv k, kb_ok_on ok1 z.1, kb_ok_on ok2 z.2]
    rfl
  · rw [bm k, Bool.and_eq_true] at z
    refine ⟨va ||| vb, (va ||| vb) ^^^ 2 ^ k, lw, kb_flip_lt lw hk, W, ⟨kb_st_flip W.1 z.1, kb_st_flip W.2 z.2⟩, ?_⟩
    rw [kb_flip_bit]
    exact kb_not_ne _
theorem kb_S6 (ok2 : kb_ok vb mb) (q : Nat) (hq : q < 64) : kb_S va ma vb mb (fun x _ q => q = x ∧ kb_st vb mb x) q ↔ (kb_st va ma q ∧ kb_st vb mb q) := by
  constructor
  · rintro ⟨x, y, _, _, g1, _, e, g2⟩
    subst e
    exact ⟨g1, g2⟩
  · rintro ⟨g1, g2⟩
    exact ⟨q, vb, hq, ok2.1, g1, kb_st_v ok2, rfl, g2⟩
theorem kb_law6 {nv nm : Nat} (ok1 : kb_ok va ma) (ok2 : kb_ok vb mb) (h : ((va ^^^ vb) ^^^ ((va ^^^ vb) &&& ma)) ^^^ (((va ^^^ vb) ^^^ ((va ^^^ vb) &&& ma)) &&& mb) = 0) (em : ma &&& mb = nm) (ev : va ||| vb = nv) : kb_best (kb_S va ma vb mb (fun x _ q => q = x ∧ kb_st vb mb x)) nv nm := kb_best_congr (fun q hq => (kb_S6 ok2 q hq).symm) (kb_meet ok1 ok2 h em ev)
end
/-! shifts -/
theorem kb_best_F {v m v' m' : Nat} {F : Nat → Nat} (ok : kb_ok v m) (hF : ∀ x, x < 64 → F x < 64) (hv : v' < 64) (hm : m' < 64) (off : ∀ k, k < 6 → m'.testBit k = false → ∀ x, x < 64 → kb_st v m x → (F x).testBit k = v'.testBit k) (on : ∀ k, k < 6 → m'.testBit k = true → v'.testBit k = false ∧ ∃ x x', x < 64 ∧ x' < 64 ∧ kb_st v m x ∧ kb_st v m x' ∧ (F x).testBit k ≠ (F x').testBit k) : kb_best (kb_F v m F) v' m' := by
  refine ⟨hv, hm, ⟨F v, hF v ok.1, v, ok.1, kb_st_v ok, rfl⟩, fun k hk => ⟨fun z n _ hn => ?_, fun z => ?_⟩⟩
  · obtain ⟨x, l, g, e⟩ := hn
    rw [e]
    exact off k hk z x l g
  · obtain ⟨e, x, x', l, l', g, g', ne⟩ := on k hk z
    exact ⟨e, F x, F x', hF x l, hF x' l', ⟨x, l, g, rfl⟩, ⟨x', l', g', rfl⟩, ne⟩
theorem kb_law_up {v m s : Nat} (ok : kb_ok v m) : kb_best (kb_F v m (fun x => x * 2 ^ s % 64)) (v * 2 ^ s % 64) (m * 2 ^ s % 64) := by
  have B : ∀ x k, k < 6 → (x * 2 ^ s % 64).testBit k = (decide (s ≤ k) && x.testBit (k - s)) := fun x k hk => by rw [kb_m64 hk, Nat.testBit_mul_two_pow]
  refine kb_best_F ok (fun x _ => Nat.mod_lt _ (by omega)) (Nat.mod_lt _ (by omega)) (Nat.mod_lt _ (by omega)) (fun k hk z x _ g => ?_) (fun k hk z => ?_)
  · rw [B m k hk] at z
    rw [B v k hk]
    show (x * 2 ^ s % 64).testBit k = _
    rw [B x k hk]
    cases w : decide (s ≤ k)
    · rfl
    · rw [w, Bool.true_and] at z
      rw [kb_st_off g z]
  · rw [B m k hk, Bool.and_eq_true] at z
    rw [B v k hk, kb_ok_on ok z.2, Bool.and_false]
    refine ⟨rfl, v, v ^^^ 2 ^ (k - s), ok.1, kb_flip_lt ok.1 (by omega), kb_st_v ok, kb_st_flip (kb_st_v ok) z.2, ?_⟩
    show (v * 2 ^ s % 64).testBit k ≠ ((v ^^^ 2 ^ (k - s)) * 2 ^ s % 64).testBit k
    rw [B v k hk, B _ k hk, kb_flip_bit, z.1, Bool.true_and, Bool.true_and]
    exact kb_not_ne _
theorem kb_law_dn {v m s : Nat} (ok : kb_ok v m) : kb_best (kb_F v m (fun x => x / 2 ^ s)) (v / 2 ^ s) (m / 2 ^ s) := by
  have B : ∀ x k, (x / 2 ^ s).testBit k = x.testBit (k + s) := fun x k => Nat.testBit_div_two_pow x k
  have D : ∀ x, x < 64 → x / 2 ^ s < 64 := fun x hx => Nat.lt_of_le_of_lt (Nat.div_le_self _ _) hx
  refine kb_best_F ok D (D v ok.1) (D m ok.2.1) (fun k hk z x _ g => ?_) (fun k hk z => ?_)
  · rw [B m k] at z
    rw [B v k]
    show (x / 2 ^ s).testBit k = _
    rw [B x k, kb_st_off g z]
  · rw [B m k] at z
    have lk : k + s < 6 := by
      rcases Nat.lt_or_ge (k + s) 6 with w | w
      · exact w
      · rw [kb_hi ok.2.1 w] at z
        cases z
    rw [B v k, kb_ok_on ok z]
    refine ⟨rfl, v, v ^^^ 2 ^ (k + s), ok.1, kb_flip_lt ok.1 lk, kb_st_v ok, kb_st_flip (kb_st_v ok) z, ?_⟩
    show (v / 2 ^ s).testBit k ≠ ((v ^^^ 2 ^ (k + s)) / 2 ^ s).testBit k
    rw [B v k, B _ k, kb_flip_bit]
    exact kb_not_ne _
end
section
/-! ===== suppose: order ===== -/
theorem kb_ordL {va ma vb mb e q : Nat} (ok2 : kb_ok vb mb) : kb_L va ma vb mb (fun x y => x + e ≤ y) q ↔ kb_N va ma 0 (((vb ||| mb : Nat) : Int) - (e : Int)) q := by
  constructor
  · rintro ⟨y, _, g1, g2, h⟩
    have := kb_st_le g2
    have h' : q + e ≤ y := h
    exact ⟨g1, by omega, by omega⟩
  · rintro ⟨g1, _, h⟩
    refine ⟨vb ||| mb, kb_or_lt ok2.1 ok2.2.1, g1, kb_st_vm ok2, ?_⟩
    show q + e ≤ vb ||| mb
    omega
theorem kb_ordR {va ma vb mb e q : Nat} (ok1 : kb_ok va ma) (hq : q < 64) : kb_Rt va ma vb mb (fun x y => x + e ≤ y) q ↔ kb_N vb mb ((va : Int) + (e : Int)) 63 q := by
  constructor
  · rintro ⟨x, _, g1, g2, h⟩
    have := kb_st_ge g1
    have h' : x + e ≤ q := h
    exact ⟨g2, by omega, by omega⟩
  · rintro ⟨g2, h, _⟩
    refine ⟨va, ok1.1, kb_st_v ok1, g2, ?_⟩
    show va + e ≤ q
    omega
theorem kb_swapL {va ma vb mb : Nat} {H : Nat → Nat → Prop} (q : Nat) : kb_L va ma vb mb (fun x y => H y x) q ↔ kb_Rt vb mb va ma H q := by
  constructor
  · rintro ⟨y, l, g1, g2, h⟩
    exact ⟨y, l, g2, g1, h⟩
  · rintro ⟨y, l, g1, g2, h⟩
    exact ⟨y, l, g2, g1, h⟩
theorem kb_swapR {va ma vb mb : Nat} {H : Nat → Nat → Prop} (q : Nat) : kb_Rt va ma vb mb (fun x y => H y x) q ↔ kb_L vb mb va ma H q := by
  constructor
  · rintro ⟨y, l, g1, g2, h⟩
    exact ⟨y, l, g2, g1, h⟩
  · rintro ⟨y, l, g1, g2, h⟩
    exact ⟨y, l, g2, g1, h⟩
theorem kb_emptyLR {va ma vb mb : Nat} {H : Nat → Nat → Prop} (h : ∀ q, q < 64 → ¬ kb_L va ma vb mb H q) : ∀ q, q < 64 → ¬ kb_Rt va ma vb mb H q := by
  rintro q hq ⟨x, l, g⟩
  exact h x l ⟨q, hq, g⟩
theorem kb_emptyRL {va ma vb mb : Nat} {H : Nat → Nat → Prop} (h : ∀ q, q < 64 → ¬ kb_Rt va ma vb mb H q) : ∀ q, q < 64 → ¬ kb_L va ma vb mb H q := by
  rintro q hq ⟨x, l, g⟩
  exact h x l ⟨q, hq, g⟩
theorem kb_Xorder {post : Int32 → SX → Prop} {f g : Int32} {a b : Nat → Int32} {ra rb va ma vb mb e : Nat} (hra : ra < 6) (hrb : rb < 6) (he : e ≤ 1) (a1 : a ra = nI va) (b1 : b ra = nI ma) (a2 : a rb = nI vb) (b2 : b rb = nI mb) (ok1 : kb_ok va ma) (ok2 : kb_ok vb mb)
    (h0 : (∀ q, q < 64 → ¬ kb_L va ma vb mb (fun x y => x + e ≤ y) q) → post (-2) (f, g, a, b))
    (h1 : ∀ v m v' m', kb_best (kb_L va ma vb mb (fun x y => x + e ≤ y)) v m → kb_best (kb_Rt va ma vb mb (fun x y => x + e ≤ y)) v' m' → post 0 (nI v', nI m', upd (upd a rb (nI v')) ra (nI v), upd (upd b rb (nI m')) ra (nI m))) : wpX_supposeOrder post (f, g, a, b) (nI ra) (nI rb) (nI e) := by
  have lB := kb_or_lt ok2.1 ok2.2.1
  have lA := ok1.1
  have t0 : (0 : Int32).toInt = 0 := by decide
  have t63 : (63 : Int32).toInt = 63 := by decide
  have tT : (nI (vb ||| mb) - nI e).toInt = ((vb ||| mb : Nat) : Int) - (e : Int) := pk_sub_toInt (by omega) (by omega)
  have tB : (nI va + nI e).toInt = (va : Int) + (e : Int) := by
    rw [nI_add, nI_toInt (by omega)]
    omega
  unfold wpX_supposeOrder wpX_greatest
  dsimp only
  rw [kb_cl hra, kb_cl hrb, a1, a2, b2, kb_or]
  refine ⟨kb_in hrb, kb_in hrb, nm_e ⟨kb_in hra, nm_e ?_⟩⟩
  refine kb_Xnarrowed hra a1 b1 ok1 (fun v m B => ?_) (fun no => br_t rfl (h0 fun q hq hL => ?_))
  · rw [t0, tT] at B
    refine br_f (by decide) ?_
    have BL : kb_best (kb_L va ma vb mb (fun x y => x + e ≤ y)) v m := kb_best_congr (fun q _ => (kb_ordL ok2).symm) B
    refine kb_Xnarrowed hrb a2 b2 ok2 (fun v' m' B' => ?_) (fun no => ?_)
    · rw [tB, t63] at B'
      have BR : kb_best (kb_Rt va ma vb mb (fun x y => x + e ≤ y)) v' m' := kb_best_congr (fun q hq => (kb_ordR ok1 hq).symm) B'
      exact kb_Xkeep hrb ⟨kb_in hra, nm_e ⟨kb_in hra, nm_e (h1 v m v' m' BL BR)⟩⟩
    · exfalso
      rw [tB, t63] at no
      obtain ⟨_, _, ⟨q, hq, y, hy, g⟩, _⟩ := BL
      exact no y hy ((kb_ordR ok1 hy).1 ⟨q, hq, g⟩)
  · rw [t0, tT] at no
    exact no q hq ((kb_ordL ok2).1 hL)
/-! ===== suppose: different ===== -/
theorem kb_pow1 : ∀ m, m < 64 → m ≠ 0 → m &&& (m - 1) = 0 → ∃ j, j < 6 ∧ m = 2 ^ j := by decide +kernel
theorem kb_pow2 : ∀ m, m < 64 → ¬ m &&& (m - 1) = 0 → ∀ k, k < 6 → ∃ i, i < 6 ∧ k ≠ i ∧ m.testBit i = true := by decide +kernel
theorem kb_st_iff0 {v m n : Nat} (ok : kb_ok v m) : (n ^^^ v) ^^^ ((n ^^^ v) &&& m) = 0 ↔ kb_st v m n := by
  have bit : ∀ k, ((n ^^^ v) ^^^ ((n ^^^ v) &&& m)).testBit k = ((n.testBit k ^^ v.testBit k) && !m.testBit k) := by
    intro k
    rw [Nat.testBit_xor, Nat.testBit_and, Nat.testBit_xor]
    cases n.testBit k <;> cases v.testBit k <;> cases m.testBit k <;> rfl
  constructor
  · intro h
    apply kb_st_of
    intro k
    have e := bit k
    have o := kb_ok_bit ok k
    rw [h, Nat.zero_testBit] at e
    revert e o
    cases n.testBit k <;> cases v.testBit k <;> cases m.testBit k <;> simp
  · intro h
    apply Nat.eq_of_testBit_eq
    intro k
    have e := kb_st_bit h k
    rw [bit k, Nat.zero_testBit, e]
    cases n.testBit k <;> cases m.testBit k <;> rfl
theorem kb_flip_ne (n i : Nat) : n ^^^ 2 ^ i ≠ n := by
  intro e
  have := kb_flip_bit n i
  rw [e] at this
  exact kb_not_ne _ this
theorem kb_take_no {v m n : Nat} (ok : kb_ok v m) (h : ¬ kb_st v m n) : kb_best (fun q => kb_st v m q ∧ q ≠ n) v m := by
  refine kb_best_congr (fun q _ => ⟨fun g => ⟨g, fun e => ?_⟩, fun g => g.1⟩) (kb_best_self ok)
  subst e
  exact h g
theorem kb_take_two {v m n : Nat} (hm : m < 64) (h : kb_st v m n) (hn : n < 64) (hm0 : m ≠ 0) (h2 : m &&& (m - 1) = 0) : kb_best (fun q => kb_st v m q ∧ q ≠ n) (n ^^^ m) 0 := by
  obtain ⟨j, hj, e⟩ := kb_pow1 m hm hm0 h2
  subst e
  refine ⟨kb_xor_lt hn hm, by omega, ⟨n ^^^ 2 ^ j, kb_xor_lt hn hm, kb_st_flip h Nat.testBit_two_pow_self, kb_flip_ne n j⟩, fun k hk => ⟨fun _ q _ hq => ?_, fun z => ?_⟩⟩
  · by_cases w : j = k
    · subst w
      rw [kb_flip_bit]
      apply kb_ne
      intro e
      apply hq.2
      apply Nat.eq_of_testBit_eq
      intro i
      by_cases w : j = i
      · subst w
        exact e
      · rw [kb_st_off hq.1 (Nat.testBit_two_pow_of_ne w), kb_st_off h (Nat.testBit_two_pow_of_ne w)]
    · rw [Nat.testBit_xor, Nat.testBit_two_pow_of_ne w, Bool.xor_false, kb_st_off hq.1 (Nat.testBit_two_pow_of_ne w), kb_st_off h (Nat.testBit_two_pow_of_ne w)]
  · rw [Nat.zero_testBit] at z
    cases z
theorem kb_take_many {v m n : Nat} (ok : kb_ok v m) (h : kb_st v m n) (hn : n < 64) (h2 : ¬ m &&& (m - 1) = 0) : kb_best (fun q => kb_st v m q ∧ q ≠ n) v m := by
  have P := kb_pow2 m ok.2.1 h2
  obtain ⟨i0, l0, _, e0⟩ := P 0 (by omega)
  refine ⟨ok.1, ok.2.1, ⟨n ^^^ 2 ^ i0, kb_flip_lt hn l0, kb_st_flip h e0, kb_flip_ne n i0⟩, fun k hk => ⟨fun z q _ hq => kb_st_off hq.1 z, fun z => ⟨kb_ok_on ok z, ?_⟩⟩⟩
  obtain ⟨i, l, ne, e⟩ := P k hk
  refine ⟨n ^^^ 2 ^ i, (n ^^^ 2 ^ i) ^^^ 2 ^ k, kb_flip_lt hn l, kb_flip_lt (kb_flip_lt hn l) hk, ⟨kb_st_flip h e, kb_flip_ne n i⟩, ⟨kb_st_flip (kb_st_flip h e) z, fun w => ?_⟩, ?_⟩
  · have b := congrArg (fun t => t.testBit i) w
    have b' : ((n ^^^ 2 ^ i) ^^^ 2 ^ k).testBit i = n.testBit i := b
    rw [Nat.testBit_xor, Nat.testBit_two_pow_of_ne ne, Bool.xor_false, kb_flip_bit] at b'
    exact kb_not_ne _ b'.symm
  · rw [kb_flip_bit]
    exact kb_not_ne _
theorem kb_Xtake {post : SX → Prop} {f g : Int32} {a b : Nat → Int32} {r v m n : Nat} (hr : r < 6) (a1 : a r = nI v) (b1 : b r = nI m) (ok : kb_ok v m) (hm0 : m ≠ 0) (hn : n < 64) (hp : ∀ v' m', kb_best (fun q => kb_st v m q ∧ q ≠ n) v' m' → post (f, g, upd a r (nI v'), upd b r (nI m'))) : wpX_takeOut post (f, g, a, b) (nI r) (nI n) := by
  have lm := ok.2.1
  have stay : kb_best (fun q => kb_st v m q ∧ q ≠ n) v m → post (f, g, a, b) := by
    intro B
    have := hp v m B
    rw [kb_uu a1, kb_uu b1] at this
    exact this
  have em : nI m - 1 = nI (m - 1) := pk_sub (b := 1) (by omega)
  have l1 := kb_and_lt (a := m) (b := m - 1) (by omega)
  have l2 := kb_an_lt (b := m) (kb_xor_lt hn ok.1)
  unfold wpX_takeOut wX_takeOut_20
  dsimp only
  rw [kb_cl hr, a1, b1]
  refine ⟨kb_in hr, nm_e ?_⟩
  rw [em, kb_and, kb_xor, kb_xor, kb_andn]
  rw [← nI_0, nI_eq (by omega) (by omega), nI_eq (by omega) (by omega), kb_st_iff0 ok]
  refine br_c (fun c => br_f (by decide) ⟨kb_in hr, br_c (fun c2 => ⟨kb_in hr, nm_e ⟨kb_in hr, nm_e (hp _ _ (kb_take_two lm c2 hn hm0 c))⟩⟩) (fun c2 => stay (kb_take_no ok c2))⟩) (fun c => br_t rfl (stay ?_))
  by_cases w : kb_st v m n
  · exact kb_take_many ok w hn c
  · exact kb_take_no ok w
theorem kb_two {v m : Nat} (ok : kb_ok v m) (hm : m ≠ 0) (q : Nat) : ∃ x, x < 64 ∧ kb_st v m x ∧ x ≠ q := by
  by_cases w : v = q
  · refine ⟨v ||| m, kb_or_lt ok.1 ok.2.1, kb_st_vm ok, ?_⟩
    rw [← kb_addor v ok.1 m ok.2.1 ok.2.2]
    omega
  · exact ⟨v, ok.1, kb_st_v ok, w⟩
theorem kb_st0 {v q : Nat} : kb_st v 0 q ↔ q = v := by
  unfold kb_st
  rw [Nat.and_zero, Nat.xor_zero]
section
variable {post : Int32 → SX → Prop} {f g : Int32} {a b : Nat → Int32} {ra rb va ma vb mb : Nat}
/-- what both sides do when they are told that two numbers differ -/
theorem kb_Xdiff (hra : ra < 6) (hrb : rb < 6) (a1 : a ra = nI va) (b1 : b ra = nI ma) (a2 : a rb = nI vb) (b2 : b rb = nI mb) (ok1 : kb_ok va ma) (ok2 : kb_ok vb mb)
    (h0 : (∀ q, q < 64 → ¬ kb_L va ma vb mb (fun x y => x ≠ y) q) → post (-2) (f, g, a, b))
    (h1 : ∀ v m v' m', kb_best (kb_L va ma vb mb (fun x y => x ≠ y)) v m → kb_best (kb_Rt va ma vb mb (fun x y => x ≠ y)) v' m' → post 0 (f, g, upd (upd a ra (nI v)) rb (nI v'), upd (upd b ra (nI m)) rb (nI m'))) (hne : ra ≠ rb) : wpX_supposeDifferent post (f, g, a, b) (nI ra) (nI rb) := by
  have z1 : nI ma = 0 ↔ ma = 0 := by
    have := ok1.2.1
    rw [← nI_0]
    exact nI_eq (by omega) (by omega)
  have z2 : nI mb = 0 ↔ mb = 0 := by
    have := ok2.2.1
    rw [← nI_0]
    exact nI_eq (by omega) (by omega)
  have z3 : nI va = nI vb ↔ va = vb := by
    have := ok2.1
    have := ok1.1
    exact nI_eq (by omega) (by omega)
  have bA : (∀ q, q < 64 → kb_st va ma q → kb_L va ma vb mb (fun x y => x ≠ y) q) → kb_best (kb_L va ma vb mb (fun x y => x ≠ y)) va ma := fun h => kb_best_congr (fun q hq => ⟨h q hq, fun ⟨_, _, g, _⟩ => g⟩) (kb_best_self ok1)
  have bB : (∀ q, q < 64 → kb_st vb mb q → kb_Rt va ma vb mb (fun x y => x ≠ y) q) → kb_best (kb_Rt va ma vb mb (fun x y => x ≠ y)) vb mb := fun h => kb_best_congr (fun q hq => ⟨h q hq, fun ⟨_, _, _, g, _⟩ => g⟩) (kb_best_self ok2)
  have allA : mb ≠ 0 → ∀ q, q < 64 → kb_st va ma q → kb_L va ma vb mb (fun x y => x ≠ y) q := by
    intro h q hq g
    obtain ⟨y, l, g2, ne⟩ := kb_two ok2 h q
    exact ⟨y, l, g, g2, fun e => ne e.symm⟩
  have allB : ma ≠ 0 → ∀ q, q < 64 → kb_st vb mb q → kb_Rt va ma vb mb (fun x y => x ≠ y) q := by
    intro h q hq g
    obtain ⟨y, l, g2, ne⟩ := kb_two ok1 h q
    exact ⟨y, l, g2, g, ne⟩
  have uA : ∀ x y : Int32, upd (upd a ra x) rb (nI vb) = upd a ra x ∧ upd (upd b ra y) rb (nI mb) = upd b ra y := fun x y => ⟨kb_uu (by rw [kb_un (fun e => hne e.symm), a2]), kb_uu (by rw [kb_un (fun e => hne e.symm), b2])⟩
  have uB : upd a ra (nI va) = a ∧ upd b ra (nI ma) = b := ⟨kb_uu a1, kb_uu b1⟩
  have keepBoth : kb_best (kb_L va ma vb mb (fun x y => x ≠ y)) va ma → kb_best (kb_Rt va ma vb mb (fun x y => x ≠ y)) vb mb → post 0 (f, g, a, b) := by
    intro B B'
    have := h1 va ma vb mb B B'
    rw [(uA _ (nI ma)).1, (uA (nI va) _).2, uB.1, uB.2] at this
    exact this
  have forty : ¬ (ma = 0 ∧ mb = 0) → wX_supposeDifferent_40 post (nI ra) (nI rb) f g a b := by
    intro no
    unfold wX_supposeDifferent_40
    rw [kb_cl hra, kb_cl hrb, a1, b1, a2, b2, z1, z2]
    refine ⟨kb_in hrb, br_c (fun c => ⟨kb_in hrb, ?_⟩) (fun c => ⟨kb_in hra, br_c (fun c2 => ⟨kb_in hra, ?_⟩) (fun c2 => ?_)⟩)⟩
    · have hm : ma ≠ 0 := fun e => no ⟨e, c⟩
      refine kb_Xtake hra a1 b1 ok1 hm ok2.1 (fun v' m' B => ?_)
      have := h1 v' m' vb mb (kb_best_congr (fun q hq => ?_) B) (bB (allB hm))
      · rw [(uA _ (nI m')).1, (uA (nI v') _).2] at this
        exact this
      · subst c
        constructor
        · rintro ⟨g1, g2⟩
          exact ⟨vb, ok2.1, g1, kb_st_v ok2, g2⟩
        · rintro ⟨y, _, g1, g2, h⟩
          rw [kb_st0] at g2
          subst g2
          exact ⟨g1, h⟩
    · refine kb_Xtake hrb a2 b2 ok2 c ok1.1 (fun v' m' B => ?_)
      have := h1 va ma v' m' (bA (allA c)) (kb_best_congr (fun q hq => ?_) B)
      · rw [uB.1, uB.2] at this
        exact this
      · subst c2
        constructor
        · rintro ⟨g1, g2⟩
          exact ⟨va, ok1.1, kb_st_v ok1, g1, fun e => g2 e.symm⟩
        · rintro ⟨y, _, g1, g2, h⟩
          rw [kb_st0] at g1
          subst g1
          exact ⟨g2, fun e => h e.symm⟩
    · exact keepBoth (bA (allA c)) (bB (allB c2))
  unfold wpX_supposeDifferent
  dsimp only
  rw [kb_cl hra, kb_cl hrb, a1, b1, a2, b2, z1, z2, z3]
  refine ⟨kb_in hra, br_c (fun c => ⟨kb_in hrb, br_c (fun c2 => ⟨kb_in hra, kb_in hrb, br_c (fun c3 => h0 ?_) (fun c3 => ?_)⟩) (fun c2 => forty fun h => c2 h.2)⟩) (fun c => forty fun h => c h.1)⟩
  · rintro q _ ⟨y, _, g1, g2, h⟩
    subst c c2 c3
    rw [kb_st0] at g1 g2
    exact h (g1.trans g2.symm)
  · refine keepBoth (bA fun q hq g => ⟨vb, ok2.1, g, kb_st_v ok2, ?_⟩) (bB fun q hq g => ⟨va, ok1.1, kb_st_v ok1, g, ?_⟩)
    · subst c
      rw [kb_st0] at g
      intro e
      exact c3 (g.symm.trans e)
    · subst c2
      rw [kb_st0] at g
      intro e
      exact c3 (e.trans g)
end
end
section
/-! ===== compare ===== -/
/-- the answer: 1 all pairs, 2 some and not all, 0 none -/
def kb_ans (va ma vb mb : Nat) (H : Nat → Nat → Prop) (r : Int32) : Prop := ((∀ x y, x < 64 → y < 64 → kb_st va ma x → kb_st vb mb y → H x y) ∧ r = 1) ∨ ((∃ x y, x < 64 ∧ y < 64 ∧ kb_st va ma x ∧ kb_st vb mb y ∧ H x y) ∧ (∃ x y, x < 64 ∧ y < 64 ∧ kb_st va ma x ∧ kb_st vb mb y ∧ ¬ H x y) ∧ r = 2) ∨ ((∀ x y, x < 64 → y < 64 → kb_st va ma x → kb_st vb mb y → ¬ H x y) ∧ r = 0)
section
variable {va ma vb mb : Nat} {H H' : Nat → Nat → Prop}
theorem kb_ans_congr {r : Int32} (e : ∀ x y, H x y ↔ H' x y) (h : kb_ans va ma vb mb H r) : kb_ans va ma vb mb H' r := by
  have : H = H' := by
    funext x y
    exact propext (e x y)
  rw [← this]
  exact h
theorem kb_ans_not {r : Int32} (h : kb_ans va ma vb mb H r) : (r = 2 → kb_ans va ma vb mb (fun x y => ¬ H x y) r) ∧ (¬ r = 2 → kb_ans va ma vb mb (fun x y => ¬ H x y) (1 - r)) := by
  rcases h with ⟨h, e⟩ | ⟨h, h', e⟩ | ⟨h, e⟩ <;> subst e
  · exact br_f (by decide) (.inr (.inr ⟨fun x y l l' g g' n => n (h x y l l' g g'), by decide⟩))
  · obtain ⟨x, y, l, l', g, g', n⟩ := h
    exact br_t rfl (.inr (.inl ⟨h', ⟨x, y, l, l', g, g', fun w => w n⟩, rfl⟩))
  · exact br_f (by decide) (.inl ⟨fun x y l l' g g' => h x y l l' g g', by decide⟩)
theorem kb_ans_swap {r : Int32} (h : kb_ans vb mb va ma H r) : kb_ans va ma vb mb (fun x y => H y x) r := by
  rcases h with ⟨h, e⟩ | ⟨⟨x, y, l, l', g, g', n⟩, ⟨x', y', k, k', w, w', u⟩, e⟩ | ⟨h, e⟩
  · exact .inl ⟨fun x y l l' g g' => h y x l' l g' g, e⟩
  · exact .inr (.inl ⟨⟨y, x, l', l, g', g, n⟩, ⟨y', x', k', k, w', w, u⟩, e⟩)
  · exact .inr (.inr ⟨fun x y l l' g g' => h y x l' l g' g, e⟩)
theorem kb_Yans {post : Int32 → Prop} {a b : Nat → Int32} {K : Int32} {ra rb : Nat} {r : Int32} (hV : kb_Vp (nI ra) K (nI rb)) (hra : ra < 6) (hrb : rb < 6) (a1 : a ra = nI va) (b1 : b ra = nI ma) (a2 : a rb = nI vb) (b2 : b rb = nI mb) (ok1 : kb_ok va ma) (ok2 : kb_ok vb mb)
    (hH : ∀ x y, x < 64 → y < 64 → ∀ P : Int32 → Prop, (H x y → P 1) → (¬ H x y → P 0) → wpY_holds P (nI x) K (nI y)) (h : kb_ans va ma vb mb H r) (hp : post r) : wpY_compare post (a, b) (nI ra) K (nI rb) := by
  refine kb_Ycompare hV hra hrb a1 b1 a2 b2 ok1 ok2 hH (fun c => ?_) (fun c c' => ?_) (fun c => ?_)
  · rcases h with ⟨_, e⟩ | ⟨_, ⟨x, y, l, l', g, g', n⟩, _⟩ | ⟨n, _⟩
    · rw [← e]; exact hp
    · exact absurd (c x y l l' g g') n
    · exact absurd (c va vb ok1.1 ok2.1 (kb_st_v ok1) (kb_st_v ok2)) (n va vb ok1.1 ok2.1 (kb_st_v ok1) (kb_st_v ok2))
  · obtain ⟨x, y, l, l', g, g', n⟩ := c
    obtain ⟨x', y', k, k', w, w', u⟩ := c'
    rcases h with ⟨h, _⟩ | ⟨_, _, e⟩ | ⟨h, _⟩
    · exact absurd (h x y l l' g g') n
    · rw [← e]; exact hp
    · exact absurd u (h x' y' k k' w w')
  · rcases h with ⟨n, _⟩ | ⟨⟨x, y, l, l', g, g', n⟩, _, _⟩ | ⟨_, e⟩
    · exact absurd (n va vb ok1.1 ok2.1 (kb_st_v ok1) (kb_st_v ok2)) (c va vb ok1.1 ok2.1 (kb_st_v ok1) (kb_st_v ok2))
    · exact absurd n (c x y l l' g g')
    · rw [← e]; exact hp
theorem kb_Xequal {post : Int32 → Prop} {f g : Int32} {a b : Nat → Int32} {ra rb : Nat} (hra : ra < 6) (hrb : rb < 6) (a1 : a ra = nI va) (b1 : b ra = nI ma) (a2 : a rb = nI vb) (b2 : b rb = nI mb) (ok1 : kb_ok va ma) (ok2 : kb_ok vb mb) (hp : ∀ r, kb_ans va ma vb mb (fun x y => x = y) r → post r) : wpX_compareEqual post (f, g, a, b) (nI ra) (nI rb) := by
  have l := kb_an_lt (b := mb) (kb_an_lt (b := ma) (kb_xor_lt ok1.1 ok2.1))
  have lm1 := ok1.2.1
  have lm2 := ok2.2.1
  unfold wpX_compareEqual
  dsimp only
  rw [kb_cl hra, kb_cl hrb, a1, b1, a2, b2, kb_xor, kb_andn, kb_andn]
  rw [← nI_0, nI_eq (by omega) (by omega), nI_eq (by omega) (by omega), nI_eq (by omega) (by omega)]
  have some2 : ((va ^^^ vb) ^^^ ((va ^^^ vb) &&& ma)) ^^^ (((va ^^^ vb) ^^^ ((va ^^^ vb) &&& ma)) &&& mb) = 0 → ¬ (ma = 0 ∧ mb = 0) → post 2 := by
    intro c no
    have W := kb_meet_v ok1 ok2 c
    have lw := kb_or_lt ok1.1 ok2.1
    refine hp 2 (.inr (.inl ⟨⟨va ||| vb, va ||| vb, lw, lw, W.1, W.2, rfl⟩, ?_, rfl⟩))
    by_cases w : ma = 0
    · obtain ⟨y, ly, g, ne⟩ := kb_two ok2 (fun e => no ⟨w, e⟩) va
      exact ⟨va, y, ok1.1, ly, kb_st_v ok1, g, fun e => ne e.symm⟩
    · obtain ⟨x, lx, g, ne⟩ := kb_two ok1 w vb
      exact ⟨x, vb, lx, ok2.1, g, kb_st_v ok2, ne⟩
  refine ⟨kb_in hra, kb_in hrb, kb_in hra, kb_in hrb, br_c (fun c => ⟨kb_in hra, br_c (fun c1 => ⟨kb_in hrb, br_c (fun c2 => hp 1 (.inl ⟨?_, rfl⟩)) (fun c2 => some2 c fun h => c2 h.2)⟩) (fun c1 => some2 c fun h => c1 h.1)⟩) (fun c => hp 0 (.inr (.inr ⟨?_, rfl⟩)))⟩
  · intro x y _ _ g1 g2
    have W := kb_meet_v ok1 ok2 c
    subst c1 c2
    rw [kb_st0] at g1 g2
    have e1 := kb_st0.1 W.1
    have e2 := kb_st0.1 W.2
    exact (g1.trans e1.symm).trans (e2.trans g2.symm)
  · intro x y _ _ g1 g2 e
    subst e
    exact kb_meet_no c x g1 g2
theorem kb_Xless {post : Int32 → Prop} {f g : Int32} {a b : Nat → Int32} {ra rb : Nat} (hra : ra < 6) (hrb : rb < 6) (a1 : a ra = nI va) (b1 : b ra = nI ma) (a2 : a rb = nI vb) (b2 : b rb = nI mb) (ok1 : kb_ok va ma) (ok2 : kb_ok vb mb) (hp : ∀ r, kb_ans va ma vb mb (fun x y => x < y) r → post r) : wpX_compareLess post (f, g, a, b) (nI ra) (nI rb) := by
  have lA := kb_or_lt ok1.1 ok1.2.1
  have lB := kb_or_lt ok2.1 ok2.2.1
  have la := ok1.1
  have lb := ok2.1
  unfold wpX_compareLess wpX_greatest
  dsimp only
  rw [kb_cl hra, kb_cl hrb, a1, b1, a2, b2, kb_or, kb_or]
  rw [nI_leI (by omega) (by omega), nI_ltI (by omega) (by omega)]
  refine ⟨kb_in hra, kb_in hra, kb_in hrb, br_c (fun c => ⟨kb_in hra, kb_in hrb, kb_in hrb, br_c (fun c2 => hp 2 (.inr (.inl ⟨?_, ?_, rfl⟩))) (fun c2 => hp 0 (.inr (.inr ⟨?_, rfl⟩)))⟩) (fun c => hp 1 (.inl ⟨?_, rfl⟩))⟩
  · exact ⟨va, vb ||| mb, la, lB, kb_st_v ok1, kb_st_vm ok2, c2⟩
  · exact ⟨va ||| ma, vb, lA, lb, kb_st_vm ok1, kb_st_v ok2, by omega⟩
  · intro x y _ _ g1 g2
    have := kb_st_ge g1
    have := kb_st_le g2
    omega
  · intro x y _ _ g1 g2
    have := kb_st_le g1
    have := kb_st_ge g2
    omega
end
theorem kb_Xcompare_bad {post : Int32 → Prop} {f g : Int32} {a b : Nat → Int32} {p0 p1 p2 : Int32} (h : ¬ kb_Vp p0 p1 p2) (hp : post (-1)) : wpX_compare post (f, g, a, b) p0 p1 p2 := by
  unfold wpX_compare
  exact kb_Xreg (fun h0 => kb_Xreg (fun h2 => br_c (fun _ => hp) (fun h1 => br_c (fun h5 => absurd ⟨h0, h2, h1, h5⟩ h) (fun _ => hp))) (fun _ => hp)) (fun _ => hp)
theorem kb_Xcmp_in {post : Int32 → Prop} {f g : Int32} {a b : Nat → Int32} {K : Int32} {ra rb : Nat} (hra : ra < 6) (hrb : rb < 6) (hK : ¬ K < 0) (hK5 : K ≤ 5) (h : ((K = 0 → (wX_compare_34 post (nI ra) K (nI rb) f g a b)) ∧ (¬ K = 0 → (((K = 3 → (wX_compare_34 post (nI ra) K (nI rb) f g a b)) ∧ (¬ K = 3 → (((K = 1 → (wX_compare_72 post (nI ra) K (nI rb) f g a b)) ∧ (¬ K = 1 → (((K = 4 → (wX_compare_72 post (nI ra) K (nI rb) f g a b)) ∧ (¬ K = 4 → (wpX_compareLess (fun r => (((K = 5 → (post r)) ∧ (¬ K = 5 → (((r = 2 → (post r)) ∧ (¬ r = 2 → (post (1 - r))))))))) (f, g, a, b) (nI rb) (nI ra)))))))))))))) : wpX_compare post (f, g, a, b) (nI ra) K (nI rb) := by
  unfold wpX_compare
  exact kb_Xreg (fun _ => kb_Xreg (fun _ => br_f hK (br_t hK5 h)) (fun z => absurd ⟨rb, hrb, rfl⟩ z)) (fun z => absurd ⟨ra, hra, rfl⟩ z)
/-- compare, both sides at once: one answer -/
theorem kb_cmp {postX : Int32 → Prop} {f g : Int32} {a b : Nat → Int32} {ra rb va ma vb mb K : Nat} (hra : ra < 6) (hrb : rb < 6) (hK : K ≤ 5) (a1 : a ra = nI va) (b1 : b ra = nI ma) (a2 : a rb = nI vb) (b2 : b rb = nI mb) (ok1 : kb_ok va ma) (ok2 : kb_ok vb mb) (hp : ∀ r, (∀ P : Int32 → Prop, P r → wpY_compare P (a, b) (nI ra) (nI K) (nI rb)) → postX r) : wpX_compare postX (f, g, a, b) (nI ra) (nI K) (nI rb) := by
  have k0 : ¬ nI K < 0 := nI_pos (by omega)
  have k5 : nI K ≤ 5 := nI_le (b := 5) hK (by omega)
  have V : kb_Vp (nI ra) (nI K) (nI rb) := ⟨⟨ra, hra, rfl⟩, ⟨rb, hrb, rfl⟩, k0, k5⟩
  have C : K = 0 ∨ K = 1 ∨ K = 2 ∨ K = 3 ∨ K = 4 ∨ K = 5 := by omega
  refine kb_Xcmp_in hra hrb k0 k5 ?_
  unfold wX_compare_34 wX_compare_72
  rcases C with e | e | e | e | e | e <;> subst e
  · refine br_t (by decide) (kb_Xequal hra hrb a1 b1 a2 b2 ok1 ok2 (fun r hr => br_t (by decide) (hp r fun P h => kb_Yans V hra hrb a1 b1 a2 b2 ok1 ok2 kb_H0 hr h)))
  · refine br_f (by decide) (br_f (by decide) (br_t (by decide) (kb_Xless hra hrb a1 b1 a2 b2 ok1 ok2 (fun r hr => br_t (by decide) (hp r fun P h => kb_Yans V hra hrb a1 b1 a2 b2 ok1 ok2 kb_H1 hr h)))))
  · refine br_f (by decide) (br_f (by decide) (br_f (by decide) (br_f (by decide) (kb_Xless hrb hra a2 b2 a1 b1 ok2 ok1 (fun r hr => br_f (by decide) ?_)))))
    have N := kb_ans_not (kb_ans_swap hr)
    have E : ∀ x y : Nat, (¬ y < x) ↔ x ≤ y := fun x y => Nat.not_lt
    exact br_c (fun c => hp r fun P h => kb_Yans V hra hrb a1 b1 a2 b2 ok1 ok2 kb_H2 (kb_ans_congr E (N.1 c)) h) (fun c => hp _ fun P h => kb_Yans V hra hrb a1 b1 a2 b2 ok1 ok2 kb_H2 (kb_ans_congr E (N.2 c)) h)
  · refine br_f (by decide) (br_t (by decide) (kb_Xequal hra hrb a1 b1 a2 b2 ok1 ok2 (fun r hr => br_f (by decide) ?_)))
    have N := kb_ans_not hr
    exact br_c (fun c => hp r fun P h => kb_Yans V hra hrb a1 b1 a2 b2 ok1 ok2 kb_H3 (N.1 c) h) (fun c => hp _ fun P h => kb_Yans V hra hrb a1 b1 a2 b2 ok1 ok2 kb_H3 (N.2 c) h)
  · refine br_f (by decide) (br_f (by decide) (br_f (by decide) (br_t (by decide) (kb_Xless hra hrb a1 b1 a2 b2 ok1 ok2 (fun r hr => br_f (by decide) ?_)))))
    have N := kb_ans_not hr
    have E : ∀ x y : Nat, (¬ x < y) ↔ y ≤ x := fun x y => Nat.not_lt
    exact br_c (fun c => hp r fun P h => kb_Yans V hra hrb a1 b1 a2 b2 ok1 ok2 kb_H4 (kb_ans_congr E (N.1 c)) h) (fun c => hp _ fun P h => kb_Yans V hra hrb a1 b1 a2 b2 ok1 ok2 kb_H4 (kb_ans_congr E (N.2 c)) h)
  · refine br_f (by decide) (br_f (by decide) (br_f (by decide) (br_f (by decide) (kb_Xless hrb hra a2 b2 a1 b1 ok2 ok1 (fun r hr => br_t (by decide) ?_)))))
    exact hp r fun P h => kb_Yans V hra hrb a1 b1 a2 b2 ok1 ok2 kb_H5 (kb_ans_swap hr) h
end
section
/-! ===== the relation ===== -/
def kb_I (a b : Nat → Int32) : Prop := ∀ i, ∃ p q, kb_ok p q ∧ a i = nI p ∧ b i = nI q
theorem kb_I_upd {a b : Nat → Int32} {r p q : Nat} (I : kb_I a b) (ok : kb_ok p q) : kb_I (upd a r (nI p)) (upd b r (nI q)) := by
  intro i
  by_cases w : i = r
  · subst w
    exact ⟨p, q, ok, kb_us, kb_us⟩
  · obtain ⟨p', q', ok', e1, e2⟩ := I i
    exact ⟨p', q', ok', by rw [kb_un w, e1], by rw [kb_un w, e2]⟩
/-- both keep the same arrays, and every register holds a pattern of six bits -/
def i_Rel (_ : Nat) (u : SX) (v : SY) : Prop := ∃ f g a b, u = (f, g, a, b) ∧ v = (a, b) ∧ kb_I a b
theorem kb_rel {k : Nat} {f g : Int32} {a b : Nat → Int32} (A : kb_I a b) : i_Rel k (f, g, a, b) (a, b) := ⟨f, g, a, b, rfl, rfl, A⟩
theorem i_up {k : Nat} {u : SX} {v : SY} (h : i_Rel k u v) : i_Rel (k + 5) u v := h
theorem i_vc0 : wpX_init (fun u => wpY_init (fun v => i_Rel 0 u v)) := by
  show i_Rel 0 (0, 0, (fun _ => 0), (fun _ => 0)) ((fun _ => 0), (fun _ => 0))
  exact kb_rel fun i => ⟨0, 0, kb_ok0, rfl, rfl⟩
/-! ===== set ===== -/
theorem kb_set1 (x y : Nat) : (x &&& 63) &&& (y &&& 63) = (x &&& 63) &&& y := by
  apply Nat.eq_of_testBit_eq
  intro k
  simp only [Nat.testBit_and]
  cases x.testBit k <;> cases y.testBit k <;> cases (63 : Nat).testBit k <;> rfl
theorem kb_set_ok (x y : Nat) : kb_ok ((x &&& 63) ^^^ ((x &&& 63) &&& y)) (y &&& 63) := by
  refine kb_ok_of (kb_an_lt (kb_and_lt (by omega))) (kb_and_lt (by omega)) fun k hk => ?_
  simp only [Nat.testBit_xor, Nat.testBit_and, kb_63bit hk]
  cases x.testBit k <;> cases y.testBit k <;> rfl
theorem i_vc_set {k : Nat} {u : SX} {v : SY} (I : i_Rel k u v) (hk : k + 5 ≤ 2560) (v1 : Int32) (v2 : Int32) (v3 : Int32) : wpX_set (fun r u' => wpY_set (fun r' v' => r' = r ∧ i_Rel (k + 5) u' v') v v1 v2 v3) u v1 v2 v3 := by
  obtain ⟨f, g, a, b, rfl, rfl, A⟩ := I
  obtain ⟨x, rfl⟩ := kb_nOf v2
  obtain ⟨y, rfl⟩ := kb_nOf v3
  unfold wpX_set wpY_set
  refine kb_Xreg (fun h => ?_) (fun h => kb_Yreg (fun z => absurd z h) (fun _ => ⟨rfl, kb_rel A⟩))
  obtain ⟨r, hr, rfl⟩ := h
  refine ⟨kb_in hr, nm_e ⟨kb_in hr, nm_e (kb_Yreg (fun _ => ⟨kb_in hr, nm_e ⟨kb_in hr, kb_in hr, nm_e ⟨rfl, ?_⟩⟩⟩) (fun z => absurd ⟨r, hr, rfl⟩ z))⟩⟩
  rw [kb_cl hr, kb_us, kb_63, kb_and, kb_and, kb_andn, kb_andn, kb_set1]
  exact kb_rel (kb_I_upd A (kb_set_ok x y))
/-! ===== combine ===== -/
theorem kb_fin {k d : Nat} {P : Nat → Prop} {a b : Nat → Int32} (A : kb_I a b) (f g : Int32) {nv nm : Nat} (B : kb_best P nv nm) : (0 : Int32) = 0 ∧ i_Rel (k + 5) (f, g, upd a d (nI nv), upd b d (nI nm)) (upd a d (nI nv), upd b d (nI nm)) := ⟨rfl, kb_rel (kb_I_upd A (kb_best_ok B))⟩
theorem i_vc_combine {k : Nat} {u : SX} {v : SY} (I : i_Rel k u v) (hk : k + 5 ≤ 2560) (v1 : Int32) (v2 : Int32) (v3 : Int32) (v4 : Int32) : wpX_combine (fun r u' => wpY_combine (fun r' v' => r' = r ∧ i_Rel (k + 5) u' v') v v1 v2 v3 v4) u v1 v2 v3 v4 := by
  obtain ⟨f, g, a, b, rfl, rfl, A⟩ := I
  by_cases V : kb_Vc v1 v2 v3 v4
  · obtain ⟨⟨d, hd, rfl⟩, ⟨ra, hra, rfl⟩, ⟨rb, hrb, rfl⟩, h0, h6⟩ := V
    obtain ⟨va, ma, ok1, a1, b1⟩ := A ra
    obtain ⟨vb, mb, ok2, a2, b2⟩ := A rb
    obtain ⟨K, hK, rfl⟩ := nI_of2 (n := 6) (by decide) h0 h6
    have C : K = 0 ∨ K = 1 ∨ K = 2 ∨ K = 3 ∨ K = 4 ∨ K = 5 ∨ K = 6 := by omega
    rcases C with rfl | rfl | rfl | rfl | rfl | rfl | rfl
    · have B := kb_law0 ok1 ok2 rfl rfl
      exact kb_Xc0 hd hra hrb a1 b1 a2 b2 rfl rfl (kb_Ycombine (R := fun x y q => q = (x + y) % 64) hd hra hrb h0 h6 a1 b1 a2 b2 ok1 ok2 (fun x y hx hy P h => kb_R0 x y hx hy P h) (.inr ⟨_, _, B, kb_fin A _ _ B⟩))
    · have B := kb_law1 ok1 ok2 rfl rfl
      exact kb_Xc1 hd hra hrb a1 b1 a2 b2 ok1 ok2 rfl rfl (kb_Ycombine (R := fun x y q => q = (x + 64 - y) % 64) hd hra hrb h0 h6 a1 b1 a2 b2 ok1 ok2 (fun x y hx hy P h => kb_R1 x y hx hy P h) (.inr ⟨_, _, B, kb_fin A _ _ B⟩))
    · have B := kb_law2 ok1 ok2 rfl rfl
      exact kb_Xc2 hd hra hrb a1 b1 a2 b2 rfl rfl (kb_Ycombine (R := fun x y q => q = x &&& y) hd hra hrb h0 h6 a1 b1 a2 b2 ok1 ok2 (fun x y hx hy P h => kb_R2 x y hx hy P h) (.inr ⟨_, _, B, kb_fin A _ _ B⟩))
    · have B := kb_law3 ok1 ok2 rfl rfl
      exact kb_Xc3 hd hra hrb a1 b1 a2 b2 rfl rfl (kb_Ycombine (R := fun x y q => q = x ||| y) hd hra hrb h0 h6 a1 b1 a2 b2 ok1 ok2 (fun x y hx hy P h => kb_R3 x y hx hy P h) (.inr ⟨_, _, B, kb_fin A _ _ B⟩))
    · have B := kb_law4 ok1 ok2 rfl rfl
      exact kb_Xc4 hd hra hrb a1 b1 a2 b2 rfl rfl (kb_Ycombine (R := fun x y q => q = x ^^^ y) hd hra hrb h0 h6 a1 b1 a2 b2 ok1 ok2 (fun x y hx hy P h => kb_R4 x y hx hy P h) (.inr ⟨_, _, B, kb_fin A _ _ B⟩))
    · have B := kb_law5 ok1 ok2 rfl rfl
      exact kb_Xc5 hd hra hrb a1 b1 a2 b2 rfl rfl (kb_Ycombine (R := fun x y q => q = x ∨ q = y) hd hra hrb h0 h6 a1 b1 a2 b2 ok1 ok2 (fun x y hx hy P h => kb_R5 x y hx hy P h) (.inr ⟨_, _, B, kb_fin A _ _ B⟩))
    · refine kb_Xc6 hd hra hrb a1 b1 a2 b2 ok1 ok2 rfl rfl (fun c => ?_) (fun c => ?_)
      · have B := kb_law6 ok1 ok2 c rfl rfl
        exact kb_Ycombine (R := fun x _ q => q = x ∧ kb_st vb mb x) hd hra hrb h0 h6 a1 b1 a2 b2 ok1 ok2 (fun x y hx hy P h => kb_R6 hrb a2 b2 ok2.1 x y hx hy P h) (.inr ⟨_, _, B, kb_fin A _ _ B⟩)
      · refine kb_Ycombine (R := fun x _ q => q = x ∧ kb_st vb mb x) hd hra hrb h0 h6 a1 b1 a2 b2 ok1 ok2 (fun x y hx hy P h => kb_R6 hrb a2 b2 ok2.1 x y hx hy P h) (.inl ⟨fun q hq s => ?_, rfl, kb_rel A⟩)
        have := (kb_S6 ok2 q hq).1 s
        exact kb_meet_no c q this.1 this.2
  · exact kb_Xcombine_bad V (kb_Ycombine_bad V ⟨rfl, kb_rel A⟩)
/-! ===== shift ===== -/
theorem kb_negT {w : Nat} (h : w < 2 ^ 31) : (-nI w).toInt = -(w : Int) := by
  rw [Int32.toInt_neg, nI_toInt h]
  exact Int.bmod_eq_of_le (by omega) (by omega)
theorem i_vc_shift {k : Nat} {u : SX} {v : SY} (I : i_Rel k u v) (hk : k + 5 ≤ 2560) (v1 : Int32) (v2 : Int32) (v3 : Int32) : wpX_shift (fun r u' => wpY_shift (fun r' v' => r' = r ∧ i_Rel (k + 5) u' v') v v1 v2 v3) u v1 v2 v3 := by
  obtain ⟨f, g, a, b, rfl, rfl, A⟩ := I
  by_cases V : kb_Vh v1 v2 v3
  · obtain ⟨⟨d, hd, rfl⟩, ⟨ra, hra, rfl⟩, h0, h6⟩ := V
    obtain ⟨va, ma, ok1, a1, b1⟩ := A ra
    by_cases w : v3 < 0
    · have t6 : (-6 : Int32).toInt = -6 := by decide
      have t0 : (0 : Int32).toInt = 0 := by decide
      rw [Int32.lt_iff_toInt_lt, t6] at h0
      rw [Int32.lt_iff_toInt_lt, t0] at w
      obtain ⟨s, es⟩ : ∃ s : Nat, v3.toInt = -(s : Int) := ⟨(-v3.toInt).toNat, by omega⟩
      have e : v3 = -nI s := by
        apply Int32.toInt_inj.mp
        rw [kb_negT (by omega), es]
      subst e
      have B := kb_law_dn (s := s) ok1
      exact kb_Xshift_dn hd hra (by omega) (by omega) a1 b1 ok1 (kb_Yshift_dn hd hra (by omega) (by omega) a1 b1 ok1 ⟨_, _, B, kb_fin A _ _ B⟩)
    · obtain ⟨s, hs, rfl⟩ := nI_of2 (n := 6) (by decide) w h6
      have B := kb_law_up (s := s) ok1
      exact kb_Xshift_up hd hra hs a1 b1 ok1 (kb_Yshift_up hd hra hs a1 b1 ok1 ⟨_, _, B, kb_fin A _ _ B⟩)
  · exact kb_Xshift_bad V (kb_Yshift_bad V ⟨rfl, kb_rel A⟩)
/-! ===== narrow ===== -/
theorem i_vc_narrow {k : Nat} {u : SX} {v : SY} (I : i_Rel k u v) (hk : k + 5 ≤ 2560) (v1 : Int32) (v2 : Int32) (v3 : Int32) : wpX_narrow (fun r u' => wpY_narrow (fun r' v' => r' = r ∧ i_Rel (k + 5) u' v') v v1 v2 v3) u v1 v2 v3 := by
  obtain ⟨f, g, a, b, rfl, rfl, A⟩ := I
  unfold wpX_narrow
  refine kb_Xreg (fun h => ?_) (fun h => ?_)
  · obtain ⟨r, hr, rfl⟩ := h
    obtain ⟨va, ma, ok1, a1, b1⟩ := A r
    refine kb_Xnarrowed hr a1 b1 ok1 (fun nv nm B => br_f (by decide) (kb_Xkeep hr ?_)) (fun no => br_t rfl ?_)
    · exact kb_Ynarrow hr a1 b1 ok1 (.inr ⟨nv, nm, B, kb_fin A _ _ B⟩)
    · exact kb_Ynarrow hr a1 b1 ok1 (.inl ⟨no, rfl, kb_rel A⟩)
  · unfold wpY_narrow
    exact kb_Yreg (fun z => absurd z h) (fun _ => ⟨rfl, kb_rel A⟩)
/-! ===== suppose ===== -/
theorem kb_Xsuppose_bad {post : Int32 → SX → Prop} {f g : Int32} {a b : Nat → Int32} {p0 p1 p2 : Int32} (h : ¬ kb_Vs p0 p1 p2) (hp : post (-1) (f, g, a, b)) : wpX_suppose post (f, g, a, b) p0 p1 p2 := by
  unfold wpX_suppose
  exact kb_Xreg (fun h0 => kb_Xreg (fun h2 => br_c (fun _ => hp) (fun h1 => br_c (fun _ => hp) (fun h5 => br_c (fun _ => hp) (fun he => absurd ⟨h0, h2, h1, h5, he⟩ h)))) (fun _ => hp)) (fun _ => hp)
theorem kb_fin2 {k ra rb : Nat} {P Q : Nat → Prop} {a b : Nat → Int32} (A : kb_I a b) (f g : Int32) {v m v' m' : Nat} (B : kb_best P v m) (B' : kb_best Q v' m') : (0 : Int32) = 0 ∧ i_Rel (k + 5) (f, g, upd (upd a ra (nI v)) rb (nI v'), upd (upd b ra (nI m)) rb (nI m')) (upd (upd a ra (nI v)) rb (nI v'), upd (upd b ra (nI m)) rb (nI m')) := ⟨rfl, kb_rel (kb_I_upd (kb_I_upd A (kb_best_ok B)) (kb_best_ok B'))⟩
theorem i_vc_suppose {k : Nat} {u : SX} {v : SY} (I : i_Rel k u v) (hk : k + 5 ≤ 2560) (v1 : Int32) (v2 : Int32) (v3 : Int32) : wpX_suppose (fun r u' => wpY_suppose (fun r' v' => r' = r ∧ i_Rel (k + 5) u' v') v v1 v2 v3) u v1 v2 v3 := by
  obtain ⟨f, g, a, b, rfl, rfl, A⟩ := I
  by_cases V : kb_Vs v1 v2 v3
  · have V' := V
    obtain ⟨⟨ra, hra, rfl⟩, ⟨rb, hrb, rfl⟩, h0, h5, hne⟩ := V'
    obtain ⟨va, ma, ok1, a1, b1⟩ := A ra
    obtain ⟨vb, mb, ok2, a2, b2⟩ := A rb
    have ne : ra ≠ rb := fun e => hne (by rw [e])
    obtain ⟨K, hK, rfl⟩ := nI_of2 (n := 5) (by decide) h0 (Int32.not_lt.mp h5)
    unfold wpX_suppose
    refine kb_Xreg (fun _ => kb_Xreg (fun _ => br_f h0 (br_f h5 (br_f hne ?_))) (fun z => absurd ⟨rb, hrb, rfl⟩ z)) (fun z => absurd ⟨ra, hra, rfl⟩ z)
    have C : K = 0 ∨ K = 1 ∨ K = 2 ∨ K = 3 ∨ K = 4 ∨ K = 5 := by omega
    rcases C with rfl | rfl | rfl | rfl | rfl | rfl
    · refine br_t (by decide) ?_
      refine kb_Xc6 hra hra hrb a1 b1 a2 b2 ok1 ok2 rfl rfl (fun c => br_t rfl ⟨kb_in hra, kb_in hrb, nm_e ⟨kb_in hra, kb_in hrb, nm_e ?_⟩⟩) (fun c => br_f (by decide) ?_)
      · rw [kb_cl hra, kb_cl hrb, kb_us, kb_us]
        have B := kb_meet ok1 ok2 c rfl rfl
        have BL : kb_best (kb_L va ma vb mb (fun x y => x = y)) (va ||| vb) (ma &&& mb) := kb_best_congr (fun q hq => ⟨fun h => ⟨q, hq, h.1, h.2, rfl⟩, fun ⟨y, _, g1, g2, e⟩ => by
          have e' : q = y := e
          subst e'
          exact ⟨g1, g2⟩⟩) B
        have BR : kb_best (kb_Rt va ma vb mb (fun x y => x = y)) (va ||| vb) (ma &&& mb) := kb_best_congr (fun q hq => ⟨fun h => ⟨q, hq, h.1, h.2, rfl⟩, fun ⟨y, _, g1, g2, e⟩ => by
          have e' : y = q := e
          subst e'
          exact ⟨g1, g2⟩⟩) B
        exact kb_Ysuppose V hra hrb a1 b1 a2 b2 ok1 ok2 kb_H0 (.inr ⟨_, _, _, _, BL, BR, kb_fin2 A _ _ BL BR⟩)
      · have EL : ∀ q, q < 64 → ¬ kb_L va ma vb mb (fun x y => x = y) q := by
          rintro q _ ⟨y, _, g1, g2, e⟩
          have e' : q = y := e
          subst e'
          exact kb_meet_no c q g1 g2
        exact kb_Ysuppose V hra hrb a1 b1 a2 b2 ok1 ok2 kb_H0 (.inl ⟨EL, kb_emptyLR EL, rfl, kb_rel A⟩)
    · refine br_f (by decide) (br_t (by decide) ?_)
      unfold wX_suppose_87 wX_suppose_100
      refine br_t (by decide) ?_
      refine kb_Xorder (e := 1) hra hrb (by omega) a1 b1 a2 b2 ok1 ok2 (fun EL => ?_) (fun v m v' m' BL BR => ?_)
      · exact kb_Ysuppose (H := fun x y => x + 1 ≤ y) V hra hrb a1 b1 a2 b2 ok1 ok2 kb_H1 (.inl ⟨EL, kb_emptyLR EL, rfl, kb_rel A⟩)
      · dsimp only
        rw [kb_uc (f := a) (fun e => ne e.symm), kb_uc (f := b) (fun e => ne e.symm)]
        exact kb_Ysuppose (H := fun x y => x + 1 ≤ y) V hra hrb a1 b1 a2 b2 ok1 ok2 kb_H1 (.inr ⟨_, _, _, _, BL, BR, kb_fin2 A _ _ BL BR⟩)
    · refine br_f (by decide) (br_f (by decide) (br_t (by decide) ?_))
      unfold wX_suppose_87 wX_suppose_100
      refine br_f (by decide) ?_
      refine kb_Xorder (e := 0) hra hrb (by omega) a1 b1 a2 b2 ok1 ok2 (fun EL => ?_) (fun v m v' m' BL BR => ?_)
      · exact kb_Ysuppose (H := fun x y => x + 0 ≤ y) V hra hrb a1 b1 a2 b2 ok1 ok2 kb_H2 (.inl ⟨EL, kb_emptyLR EL, rfl, kb_rel A⟩)
      · dsimp only
        rw [kb_uc (f := a) (fun e => ne e.symm), kb_uc (f := b) (fun e => ne e.symm)]
        exact kb_Ysuppose (H := fun x y => x + 0 ≤ y) V hra hrb a1 b1 a2 b2 ok1 ok2 kb_H2 (.inr ⟨_, _, _, _, BL, BR, kb_fin2 A _ _ BL BR⟩)
    · refine br_f (by decide) (br_f (by decide) (br_f (by decide) (br_t (by decide) ?_)))
      refine kb_Xdiff hra hrb a1 b1 a2 b2 ok1 ok2 (fun EL => ?_) (fun v m v' m' BL BR => ?_) ne
      · exact kb_Ysuppose (H := fun x y => x ≠ y) V hra hrb a1 b1 a2 b2 ok1 ok2 kb_H3 (.inl ⟨EL, kb_emptyLR EL, rfl, kb_rel A⟩)
      · exact kb_Ysuppose (H := fun x y => x ≠ y) V hra hrb a1 b1 a2 b2 ok1 ok2 kb_H3 (.inr ⟨_, _, _, _, BL, BR, kb_fin2 A _ _ BL BR⟩)
    · refine br_f (by decide) (br_f (by decide) (br_f (by decide) (br_f (by decide) (br_f (by decide) ?_))))
      unfold wX_suppose_129
      refine kb_Xorder (e := 0) hrb hra (by omega) a2 b2 a1 b1 ok2 ok1 (fun EL => ?_) (fun v m v' m' BL BR => ?_)
      · have ER : ∀ q, q < 64 → ¬ kb_Rt va ma vb mb (fun x y => y + 0 ≤ x) q := fun q hq h => EL q hq ((kb_swapR (H := fun x y => x + 0 ≤ y) q).1 h)
        exact kb_Ysuppose (H := fun x y => y + 0 ≤ x) V hra hrb a1 b1 a2 b2 ok1 ok2 kb_H4 (.inl ⟨kb_emptyRL ER, ER, rfl, kb_rel A⟩)
      · have BL' : kb_best (kb_L va ma vb mb (fun x y => y + 0 ≤ x)) v' m' := kb_best_congr (fun q _ => (kb_swapL (H := fun x y => x + 0 ≤ y) q).symm) BR
        have BR' : kb_best (kb_Rt va ma vb mb (fun x y => y + 0 ≤ x)) v m := kb_best_congr (fun q _ => (kb_swapR (H := fun x y => x + 0 ≤ y) q).symm) BL
        exact kb_Ysuppose (H := fun x y => y + 0 ≤ x) V hra hrb a1 b1 a2 b2 ok1 ok2 kb_H4 (.inr ⟨_, _, _, _, BL', BR', kb_fin2 A _ _ BL' BR'⟩)
    · refine br_f (by decide) (br_f (by decide) (br_f (by decide) (br_f (by decide) (br_t (by decide) ?_))))
      unfold wX_suppose_129
      refine kb_Xorder (e := 1) hrb hra (by omega) a2 b2 a1 b1 ok2 ok1 (fun EL => ?_) (fun v m v' m' BL BR => ?_)
      · have ER : ∀ q, q < 64 → ¬ kb_Rt va ma vb mb (fun x y => y + 1 ≤ x) q := fun q hq h => EL q hq ((kb_swapR (H := fun x y => x + 1 ≤ y) q).1 h)
        exact kb_Ysuppose (H := fun x y => y + 1 ≤ x) V hra hrb a1 b1 a2 b2 ok1 ok2 kb_H5 (.inl ⟨kb_emptyRL ER, ER, rfl, kb_rel A⟩)
      · have BL' : kb_best (kb_L va ma vb mb (fun x y => y + 1 ≤ x)) v' m' := kb_best_congr (fun q _ => (kb_swapL (H := fun x y => x + 1 ≤ y) q).symm) BR
        have BR' : kb_best (kb_Rt va ma vb mb (fun x y => y + 1 ≤ x)) v m := kb_best_congr (fun q _ => (kb_swapR (H := fun x y => x + 1 ≤ y) q).symm) BL
        exact kb_Ysuppose (H := fun x y => y + 1 ≤ x) V hra hrb a1 b1 a2 b2 ok1 ok2 kb_H5 (.inr ⟨_, _, _, _, BL', BR', kb_fin2 A _ _ BL' BR'⟩)
  · exact kb_Xsuppose_bad V (kb_Ysuppose_bad V ⟨rfl, kb_rel A⟩)
/-! ===== the readers ===== -/
theorem i_vc_compare {k : Nat} {u : SX} {v : SY} (I : i_Rel k u v) (hk : k + 5 ≤ 2560) (v1 : Int32) (v2 : Int32) (v3 : Int32) : wpX_compare (fun r => wpY_compare (fun r' => r' = r ∧ i_Rel (k + 5) u v) v v1 v2 v3) u v1 v2 v3 := by
  obtain ⟨f, g, a, b, rfl, rfl, A⟩ := I
  by_cases V : kb_Vp v1 v2 v3
  · obtain ⟨⟨ra, hra, rfl⟩, ⟨rb, hrb, rfl⟩, h0, h5⟩ := V
    obtain ⟨va, ma, ok1, a1, b1⟩ := A ra
    obtain ⟨vb, mb, ok2, a2, b2⟩ := A rb
    obtain ⟨K, hK, rfl⟩ := nI_of2 (n := 5) (by decide) h0 h5
    exact kb_cmp hra hrb hK a1 b1 a2 b2 ok1 ok2 (fun r h => h _ ⟨rfl, kb_rel A⟩)
  · exact kb_Xcompare_bad V (kb_Ycompare_bad V ⟨rfl, kb_rel A⟩)
theorem i_vc_value {k : Nat} {u : SX} {v : SY} (I : i_Rel k u v) (hk : k + 5 ≤ 2560) (v1 : Int32) : wpX_value (fun r => wpY_value (fun r' => r' = r ∧ i_Rel (k + 5) u v) v v1) u v1 := by
  obtain ⟨f, g, a, b, rfl, rfl, A⟩ := I
  unfold wpX_value wpY_value
  refine kb_Xreg (fun h => ?_) (fun h => kb_Yreg (fun z => absurd z h) (fun _ => ⟨rfl, kb_rel A⟩))
  obtain ⟨r, hr, rfl⟩ := h
  exact ⟨kb_in hr, kb_Yreg (fun _ => ⟨kb_in hr, rfl, kb_rel A⟩) (fun z => absurd ⟨r, hr, rfl⟩ z)⟩
theorem i_vc_mask {k : Nat} {u : SX} {v : SY} (I : i_Rel k u v) (hk : k + 5 ≤ 2560) (v1 : Int32) : wpX_mask (fun r => wpY_mask (fun r' => r' = r ∧ i_Rel (k + 5) u v) v v1) u v1 := by
  obtain ⟨f, g, a, b, rfl, rfl, A⟩ := I
  unfold wpX_mask wpY_mask
  refine kb_Xreg (fun h => ?_) (fun h => kb_Yreg (fun z => absurd z h) (fun _ => ⟨rfl, kb_rel A⟩))
  obtain ⟨r, hr, rfl⟩ := h
  exact ⟨kb_in hr, kb_Yreg (fun _ => ⟨kb_in hr, rfl, kb_rel A⟩) (fun z => absurd ⟨r, hr, rfl⟩ z)⟩
theorem i_vc_least {k : Nat} {u : SX} {v : SY} (I : i_Rel k u v) (hk : k + 5 ≤ 2560) (v1 : Int32) (v2 : Int32) : wpX_least (fun r => wpY_least (fun r' => r' = r ∧ i_Rel (k + 5) u v) v v1 v2) u v1 v2 := by
  obtain ⟨f, g, a, b, rfl, rfl, A⟩ := I
  unfold wpX_least
  refine kb_Xreg (fun h => ?_) (fun h => ?_)
  · obtain ⟨r, hr, rfl⟩ := h
    obtain ⟨va, ma, ok1, a1, b1⟩ := A r
    refine ⟨kb_in hr, kb_in hr, ?_⟩
    rw [kb_cl hr, a1, b1]
    exact kb_XleastFrom ok1 (fun q hq => kb_Yleast hr a1 b1 ok1 (fun q' hq' => ⟨by rw [kb_least_uniq hq' hq], kb_rel A⟩))
  · unfold wpY_least
    exact kb_Yreg (fun z => absurd z h) (fun _ => ⟨rfl, kb_rel A⟩)
theorem i_vc_count {k : Nat} {u : SX} {v : SY} (I : i_Rel k u v) (hk : k + 5 ≤ 2560) (v1 : Int32) (v2 : Int32) (v3 : Int32) : wpX_count (fun r => wpY_count (fun r' => r' = r ∧ i_Rel (k + 5) u v) v v1 v2 v3) u v1 v2 v3 := by
  obtain ⟨f, g, a, b, rfl, rfl, A⟩ := I
  by_cases h : kb_reg v1
  · obtain ⟨r, hr, rfl⟩ := h
    obtain ⟨va, ma, ok1, a1, b1⟩ := A r
    exact kb_Xcount hr a1 b1 ok1 (kb_Ycount hr a1 b1 ok1 (fun q hq => kb_P_N ok1.1 hq) ⟨rfl, kb_rel A⟩)
  · unfold wpX_count wpY_count
    exact kb_Xreg (fun z => absurd z h) (fun _ => kb_Yreg (fun z => absurd z h) (fun _ => ⟨rfl, kb_rel A⟩))
end
