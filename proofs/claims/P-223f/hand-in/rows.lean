section
theorem pk_us {f : Nat → Int32} {k : Nat} {x : Int32} : upd f k x k = x := if_pos rfl
theorem pk_un {f : Nat → Int32} {k j : Nat} {x : Int32} (h : j ≠ k) : upd f k x j = f j := if_neg h
theorem pk_uLs {f : Nat → Int64} {k : Nat} {x : Int64} : vp_updL f k x k = x := if_pos rfl
theorem pk_uLn {f : Nat → Int64} {k j : Nat} {x : Int64} (h : j ≠ k) : vp_updL f k x j = f j := if_neg h
theorem pk_sub {a b : Nat} (h : b ≤ a) : nI a - nI b = nI (a - b) := by
  obtain ⟨c, rfl⟩ : ∃ c, a = c + b := ⟨a - b, by omega⟩
  rw [← nI_add, Int32.add_sub_cancel, Nat.add_sub_cancel]
theorem pk_m1 (n : Nat) : nI (n + 1) + (-1) = nI n := by
  rw [← nI_1, Int32.add_assoc, show (1 : Int32) + (-1) = 0 from rfl, Int32.add_zero]
theorem pk_mul (a b : Nat) : nI a * nI b = nI (a * b) := (Int32.ofNat_mul a b).symm
theorem pk_tn {n : Nat} (h : n < 2 ^ 32) : (nI n).toBitVec.toNat = n := Nat.mod_eq_of_lt h
theorem pk_charN {q : Nat} (hq : q < 65536) : narrow .char (.int (nI q)) = .int (nI q) ∧ fits .char (.int (nI q)) = true := by
  constructor
  · have e : (nI q).toUInt32.toUInt16.toUInt32.toInt32 = nI q := by
      apply Int32.toBitVec_inj.mp
      apply BitVec.eq_of_toNat_eq
      show (nI q).toUInt32.toUInt16.toUInt32.toNat = q % 2 ^ 32
      rw [UInt16.toNat_toUInt32, UInt32.toNat_toUInt16, show (nI q).toUInt32.toNat = q % 2 ^ 32 from rfl]
      omega
    exact congrArg Value.int e
  · have a : (0 : Int32) ≤ nI q := nI_pos' (by omega)
    have b : nI q ≤ 65535 := nI_le (b := 65535) (by omega) (by decide)
    show (decide ((0 : Int32) ≤ nI q) && decide (nI q ≤ 65535)) = true
    rw [decide_eq_true a, decide_eq_true b]
    rfl
theorem pk_char (x : Int32) : (x.toUInt32 % 65536).toInt32 = nI (x.toBitVec.toNat % 65536) := by
  apply Int32.toBitVec_inj.mp
  apply BitVec.eq_of_toNat_eq
  rw [pk_tn (by omega)]
  show (x.toUInt32 % 65536).toNat = _
  rw [UInt32.toNat_mod]
  rfl
theorem pk_nc (x : Int32) : narrow .char (.int (x.toUInt32 % 65536).toInt32) = .int (x.toUInt32 % 65536).toInt32 := by
  rw [pk_char]
  exact (pk_charN (Nat.mod_lt _ (by decide))).1
theorem pk_vb (z : Int32) : vp_nar .byte z.toInt8.toInt32 = z.toInt8.toInt32 := by rw [vp_nar_byte]; simp
theorem pk_vc (z : Int32) : vp_nar .char (z.toUInt32 % 65536).toInt32 = (z.toUInt32 % 65536).toInt32 := Value.int.inj (pk_nc z)
theorem nx_and (a b : Nat) : nI a &&& nI b = nI (a &&& b) := by
  apply Int32.toBitVec_inj.1
  show BitVec.ofNat 32 a &&& BitVec.ofNat 32 b = BitVec.ofNat 32 (a &&& b)
  apply BitVec.eq_of_getLsbD_eq
  intro i hi
  simp [hi]
theorem nx_xor (a b : Nat) : nI a ^^^ nI b = nI (a ^^^ b) := by
  apply Int32.toBitVec_inj.1
  show BitVec.ofNat 32 a ^^^ BitVec.ofNat 32 b = BitVec.ofNat 32 (a ^^^ b)
  apply BitVec.eq_of_getLsbD_eq
  intro i hi
  simp [hi]
theorem nx_mod (k : Nat) : nI k &&& 65535 = nI (k % 65536) := by
  show nI k &&& nI 65535 = _
  rw [nx_and, show (65535 : Nat) = 2 ^ 16 - 1 from rfl, Nat.and_two_pow_sub_one_eq_mod]
theorem nx_m16 {k : Nat} (h : k < 65536) : nI k &&& 65535 = nI k := by rw [nx_mod, Nat.mod_eq_of_lt h]
theorem nf_sh : ∀ l, l < 32 → ((1 : Int32) <<< (nI l &&& 31)).toBitVec = BitVec.twoPow 32 l := by decide +kernel
theorem nf_sl : ∀ l, l < 32 → (((nI l).toUInt32 &&& Int32.toUInt32 31).toBitVec % 32).toNat = l := by decide +kernel
theorem nf_tp : ∀ l, l < 32 → BitVec.twoPow 32 l ≠ 0#32 := by decide +kernel
theorem nf_bit (m : Int32) (l : Nat) (hl : l < 32) : ((m.toUInt32 >>> ((nI l).toUInt32 &&& Int32.toUInt32 31)).toInt32 &&& 1) = 0 ↔ (m &&& ((1 : Int32) <<< (nI l &&& 31))) = 0 := by
  have e : ((m.toUInt32 >>> ((nI l).toUInt32 &&& Int32.toUInt32 31)).toInt32).toBitVec = m.toBitVec >>> l := by
    show m.toBitVec >>> (((nI l).toUInt32 &&& Int32.toUInt32 31).toBitVec % 32) = m.toBitVec >>> l
    rw [BitVec.ushiftRight_eq', nf_sl l hl]
  rw [← Int32.toBitVec_inj, ← Int32.toBitVec_inj, Int32.toBitVec_and, Int32.toBitVec_and, nf_sh l hl, e, BitVec.and_twoPow]
  show (m.toBitVec >>> l &&& 1#32) = 0#32 ↔ _ = 0#32
  rw [BitVec.and_one_eq_setWidth_ofBool_getLsbD, BitVec.getLsbD_ushiftRight, Nat.add_zero]
  cases hb : m.toBitVec.getLsbD l
  · exact ⟨fun _ => by simp, fun _ => by decide⟩
  · exact ⟨fun z => absurd z (by decide), fun z => absurd ((if_pos rfl).symm.trans z) (nf_tp l hl)⟩
theorem ts_nf {x : Bool} (h : ¬ x = false) : x = true := by cases x <;> first | rfl | exact absurd rfl h
theorem ts_nt {x : Bool} (h : ¬ x = true) : x = false := by cases x <;> first | rfl | exact absurd rfl h
theorem wb_tb (n : Nat) : (lN n).toBitVec = BitVec.ofNat 64 n := rfl
theorem wb_inj {a b : Int64} (h : a.toBitVec = b.toBitVec) : a = b := Int64.toBitVec_inj.mp h
theorem wb_or {a b : Nat} (ha : a < 2 ^ 64) (hb : b < 2 ^ 64) : lN a ||| lN b = lN (a ||| b) := by
  apply wb_inj
  rw [Int64.toBitVec_or, wb_tb, wb_tb, wb_tb]
  apply BitVec.eq_of_toNat_eq
  rw [BitVec.toNat_or, BitVec.toNat_ofNat, BitVec.toNat_ofNat, BitVec.toNat_ofNat, Nat.mod_eq_of_lt ha, Nat.mod_eq_of_lt hb, Nat.mod_eq_of_lt (Nat.or_lt_two_pow ha hb)]
end
section
/-! sets of at most eight members as numbers below 256: the int's and the long's operations on them -/
theorem zs_xt : ∀ s, s < 256 → ∀ j, j < 8 → ((nI s &&& ((1 : Int32) <<< (nI j &&& 31))) = 0 ↔ s.testBit j = false) := by decide +kernel
theorem zs_xs : ∀ s, s < 256 → ∀ j, j < 8 → nI s ||| ((1 : Int32) <<< (nI j &&& 31)) = nI (s ||| 2 ^ j) := by decide +kernel
theorem zs_xc : ∀ s, s < 256 → ∀ j, j < 8 → nI s &&& (((1 : Int32) <<< (nI j &&& 31)) ^^^ (-1)) = nI (s &&& (255 ^^^ 2 ^ j)) := by decide +kernel
theorem zs_yt : ∀ s, s < 256 → ∀ j, j < 8 → ((((lN s).toUInt64 >>> ((nI j).toInt64.toUInt64 &&& Int64.toUInt64 63)).toInt64 &&& 1) = 0 ↔ s.testBit j = false) := by decide +kernel
theorem zs_ys : ∀ s, s < 256 → ∀ j, j < 8 → lN s ||| ((1 : Int64) <<< ((nI j).toInt64 &&& 63)) = lN (s ||| 2 ^ j) := by decide +kernel
theorem zs_yc : ∀ s, s < 256 → ∀ j, j < 8 → lN s &&& (((1 : Int64) <<< ((nI j).toInt64 &&& 63)) ^^^ (-1)) = lN (s &&& (255 ^^^ 2 ^ j)) := by decide +kernel
theorem zs_xo (a b : Nat) : nI a ||| nI b = nI (a ||| b) := by
  apply Int32.toBitVec_inj.1
  show BitVec.ofNat 32 a ||| BitVec.ofNat 32 b = BitVec.ofNat 32 (a ||| b)
  apply BitVec.eq_of_getLsbD_eq
  intro i hi
  simp [hi]
theorem zs_yo {a b : Nat} (ha : a < 256) (hb : b < 256) : lN a ||| lN b = lN (a ||| b) := wb_or (by omega) (by omega)
theorem zs_big {m r j : Nat} (hr : r < 2 ^ m) (hj : m ≤ j) : r.testBit j = false := Nat.testBit_lt_two_pow (Nat.lt_of_lt_of_le hr (Nat.pow_le_pow_right (by decide) hj))
theorem zs_255 : ∀ i, i < 8 → Nat.testBit 255 i = true := by decide
theorem zs_all : ∀ i, i < 8 → Nat.testBit 4294967295 i = true := by decide
theorem zs_256 {m a : Nat} (hm : m ≤ 8) (h : a < 2 ^ m) : a < 256 := Nat.lt_of_lt_of_le h (Nat.pow_le_pow_right (n := 2) (j := 8) (by decide) hm)
theorem zs_xn {a b : Nat} (ha : a < 256) : nI a &&& (nI b ^^^ (-1)) = nI (a &&& (255 ^^^ b)) := by
  have e : (-1 : Int32) = nI 4294967295 := by decide
  rw [e, nx_xor, nx_and]
  congr 1
  apply Nat.eq_of_testBit_eq
  intro i
  rw [Nat.testBit_and, Nat.testBit_and, Nat.testBit_xor, Nat.testBit_xor]
  rcases Nat.lt_or_ge i 8 with h | h
  · rw [zs_255 i h, zs_all i h, Bool.xor_comm]
  · rw [zs_big (m := 8) ha h, Bool.false_and, Bool.false_and]
/-- the set of the i first numbers that p holds of -/
def zs_mk (p : Nat → Bool) : Nat → Nat
  | 0 => 0
  | i + 1 => if p i = true then zs_mk p i ||| 2 ^ i else zs_mk p i
theorem zs_mkT {p : Nat → Bool} {i : Nat} (h : p i = true) : zs_mk p (i + 1) = zs_mk p i ||| 2 ^ i := if_pos h
theorem zs_mkF {p : Nat → Bool} {i : Nat} (h : p i = false) : zs_mk p (i + 1) = zs_mk p i := if_neg (by rw [h]; decide)
theorem zs_mkB (p : Nat → Bool) (j : Nat) : ∀ i, (zs_mk p i).testBit j = (decide (j < i) && p j) := by
  intro i
  induction i with
  | zero => simp [zs_mk]
  | succ i ih =>
    cases h : p i
    · rw [zs_mkF h, ih]
      by_cases e : i = j
      · subst e; simp [h]
      · have e2 : decide (j < i + 1) = decide (j < i) := decide_eq_decide.mpr (by omega)
        rw [e2]
    · rw [zs_mkT h, Nat.testBit_or, ih, Nat.testBit_two_pow]
      by_cases e : i = j
      · subst e; simp [h]
      · have e2 : decide (j < i + 1) = decide (j < i) := decide_eq_decide.mpr (by omega)
        rw [e2, decide_eq_false e, Bool.or_false]
theorem zs_mkL (p : Nat → Bool) : ∀ i, zs_mk p i < 2 ^ i := by
  intro i
  induction i with
  | zero => show 0 < 1; decide
  | succ i ih =>
    have h2 : 2 ^ i < 2 ^ (i + 1) := Nat.pow_lt_pow_right (by decide) (by omega)
    cases h : p i
    · rw [zs_mkF h]; exact Nat.lt_trans ih h2
    · rw [zs_mkT h]; exact Nat.or_lt_two_pow (Nat.lt_trans ih h2) h2
theorem zs_mk8 {p : Nat → Bool} {i : Nat} (h : i ≤ 8) : zs_mk p i < 256 := zs_256 h (zs_mkL p i)
theorem zs_mrg {m r : Nat} (hm : m ≤ 8) (hr : r < 2 ^ m) (f : Nat → Bool) : r &&& (255 ^^^ zs_mk f m) = zs_mk (fun j => r.testBit j && !(f j)) m := by
  apply Nat.eq_of_testBit_eq
  intro j
  rw [Nat.testBit_and, Nat.testBit_xor, zs_mkB, zs_mkB]
  by_cases h : j < m
  · rw [zs_255 j (by omega), decide_eq_true h, Bool.true_and, Bool.true_and, Bool.true_xor]
  · rw [zs_big hr (by omega), Bool.false_and, Bool.false_and, Bool.and_false]
/-- the first number, from i on, that p holds of -/
def zs_ft (p : Nat → Bool) : Nat → Nat → Int32
  | 0, _ => -1
  | d + 1, i => if p i = true then nI i else zs_ft p d (i + 1)
theorem zs_ftT {p : Nat → Bool} {d i : Nat} (h : p i = true) : zs_ft p (d + 1) i = nI i := if_pos h
theorem zs_ftF {p : Nat → Bool} {d i : Nat} (h : p i = false) : zs_ft p (d + 1) i = zs_ft p d (i + 1) := if_neg (by rw [h]; decide)
theorem zs_ftc {p q : Nat → Bool} : ∀ d i, (∀ j, j < i + d → p j = q j) → zs_ft p d i = zs_ft q d i := by
  intro d
  induction d with
  | zero => intro i _; rfl
  | succ d ih =>
    intro i h
    have e := ih (i + 1) (fun j hj => h j (by omega))
    have e0 := h i (by omega)
    cases z : q i
    · rw [zs_ftF z, zs_ftF (e0.trans z), e]
    · rw [zs_ftT z, zs_ftT (e0.trans z)]
def zs_fd (v : Int32) : Prop := v = -1 ∨ 0 ≤ v
theorem zs_fdn {a b : Int32} (ha : zs_fd a) (h : ¬ 0 ≤ a) (hb : zs_fd b) (h2 : b < 0) : a = b := by
  rcases ha with rfl | ha
  · rcases hb with rfl | hb
    · rfl
    · exact absurd h2 (Int32.not_lt.mpr hb)
  · exact absurd ha h
theorem zs_ftd {p : Nat → Bool} : ∀ d i, i + d ≤ 8 → zs_fd (zs_ft p d i) := by
  intro d
  induction d with
  | zero => intro i _; exact Or.inl rfl
  | succ d ih =>
    intro i h
    cases z : p i
    · rw [zs_ftF z]; exact ih (i + 1) (by omega)
    · rw [zs_ftT z]; exact Or.inr (nI_pos' (by omega))
/-- a value that is a number below b -/
def zs_bl (b : Nat) (v : Int32) : Prop := ∃ j, j < b ∧ v = nI j
theorem zs_ix (x k : Nat) : nI x * 2 + nI k = nI (x * 2 + k) := by
  show nI x * nI 2 + nI k = _
  rw [pk_mul, nI_add]
/-- the row that a declaration must have -/
def zs_q (ow im na pa fl : Nat → Int32) (o b n p f : Int32) (j : Nat) : Bool := decide (im j = b ∧ ow j = o ∧ na j = n ∧ pa j = p ∧ (f = 0 ∨ ¬ (fl j &&& 1) = 0))
def zs_st (fl : Nat → Int32) (j : Nat) : Bool := decide (¬ (fl j &&& 8) = 0)
/-! the subtype set -/
def zs_ki (ia : Nat → Int32) (x : Nat) : Nat → Nat → Int32 → Int32
  | 0, _, r => r
  | d + 1, k, r => zs_ki ia x d (k + 1) (r ||| ((1 : Int32) <<< (ia (x * 2 + k) &&& 31)))
def zs_re (su ic ia : Nat → Int32) : Nat → Int32 → Int32
  | 0, r => r
  | x + 1, r => zs_re su ic ia x (if (r &&& ((1 : Int32) <<< (nI (x + 1) &&& 31))) = 0 then r else zs_ki ia (x + 1) (ic (x + 1)).toNatClampNeg 0 (r ||| ((1 : Int32) <<< (su (x + 1) &&& 31))))
theorem zs_reT {su ic ia : Nat → Int32} {x : Nat} {r : Int32} (h : (r &&& ((1 : Int32) <<< (nI (x + 1) &&& 31))) = 0) : zs_re su ic ia (x + 1) r = zs_re su ic ia x r := congrArg (zs_re su ic ia x) (if_pos h)
theorem zs_reF {su ic ia : Nat → Int32} {x : Nat} {r : Int32} (h : ¬ (r &&& ((1 : Int32) <<< (nI (x + 1) &&& 31))) = 0) : zs_re su ic ia (x + 1) r = zs_re su ic ia x (zs_ki ia (x + 1) (ic (x + 1)).toNatClampNeg 0 (r ||| ((1 : Int32) <<< (su (x + 1) &&& 31)))) := congrArg (zs_re su ic ia x) (if_neg h)
def zs_rt (R t : Int32) : Int32 := if (R &&& ((1 : Int32) <<< (t &&& 31))) = 0 then 0 else 1
def zs_sub (su ic ia : Nat → Int32) (s t : Int32) : Int32 := if s = t then 1 else if s < 0 then 0 else if t < 0 then 0 else zs_rt (zs_re su ic ia s.toNatClampNeg ((1 : Int32) <<< (s &&& 31))) t
theorem zs_sub01 (su ic ia : Nat → Int32) (s t : Int32) : zs_sub su ic ia s t = 0 ∨ zs_sub su ic ia s t = 1 := by
  unfold zs_sub zs_rt
  split
  · exact Or.inr rfl
  · split
    · exact Or.inl rfl
    · split
      · exact Or.inl rfl
      · split
        · exact Or.inl rfl
        · exact Or.inr rfl
theorem zs_nb {z : Int32} (h : z = 0 ∨ z = 1) : narrow .boolean (.int z) = .int z := by
  rcases h with rfl | rfl
  · exact narrow_b0
  · exact narrow_b1
theorem zs_vb {z : Int32} (h : z = 0 ∨ z = 1) : vp_nar .boolean z = z := by
  rcases h with rfl | rfl
  · rfl
  · rfl
/-- a type's id, or -1 -/
def zs_ok (c : Nat) (s : Int32) : Prop := s = -1 ∨ zs_bl c s
theorem zs_okf {c : Nat} {s : Int32} (hc : c ≤ 6) (h : zs_ok c s) : ¬ s < -1 ∧ ¬ nI c ≤ s ∧ s < nI c := by
  rcases h with rfl | ⟨j, hj, rfl⟩
  · exact (by decide : ∀ c, c < 7 → ¬ (-1 : Int32) < -1 ∧ ¬ nI c ≤ -1 ∧ (-1 : Int32) < nI c) c (by omega)
  · refine ⟨?_, nI_ge hj (by omega), nI_lt hj (by omega)⟩
    rw [Int32.lt_iff_toInt_lt, nI_toInt (by omega), show (-1 : Int32).toInt = -1 from by decide]
    omega
theorem zs_okI {c : Nat} {s : Int32} (hc : c ≤ 6) (h1 : ¬ s < -1) (h2 : s < nI c) : zs_ok c s := by
  by_cases z : s < 0
  · left
    apply Int32.toInt_inj.mp
    rw [Int32.lt_iff_toInt_lt] at h1 z
    have a : (-1 : Int32).toInt = -1 := by decide
    have b : (0 : Int32).toInt = 0 := by decide
    omega
  · right
    obtain ⟨j, hj, rfl⟩ := nI_of z
    rw [nI_ltI hj (by omega)] at h2
    exact ⟨j, h2, rfl⟩
/-! the fields' search at one type -/
def zs_fi (A ia : Nat → Int32) (x : Nat) : Nat → Nat → Int32 → Int32
  | 0, _, a => a
  | d + 1, k, a => if 0 ≤ a then a else zs_fi A ia x d (k + 1) (A (ia (x * 2 + k)).toNatClampNeg)
theorem zs_fiT {A ia : Nat → Int32} {x d k : Nat} {a : Int32} (h : 0 ≤ a) : zs_fi A ia x (d + 1) k a = a := if_pos h
theorem zs_fiF {A ia : Nat → Int32} {x d k : Nat} {a : Int32} (h : ¬ 0 ≤ a) : zs_fi A ia x (d + 1) k a = zs_fi A ia x d (k + 1) (A (ia (x * 2 + k)).toNatClampNeg) := if_neg h
def zs_fs (A su fi : Nat → Int32) (x : Nat) (a : Int32) : Int32 := if 0 ≤ a then a else if x = 0 then a else if fi x = 0 then A (su x).toNatClampNeg else a
/-! the methods' search at one type -/
def zs_bt (su fi ic ia : Nat → Int32) (a b : Int32) : Int32 := if fi a.toNatClampNeg = fi b.toNatClampNeg then zs_sub su ic ia a b else fi b.toNatClampNeg
def zs_cd (su fi ic ia ow ty : Nat → Int32) (u i j : Nat) : Bool := decide (¬ j = i ∧ u.testBit i = true ∧ u.testBit j = true ∧ ty j = ty i ∧ ¬ zs_bt su fi ic ia (ow j) (ow i) = 0)
def zs_kn (q : Nat → Bool) (i : Nat) : Nat → Nat → Nat → Nat
  | 0, _, r => r
  | d + 1, j, r => zs_kn q i d (j + 1) (if q j = true then r &&& (255 ^^^ 2 ^ i) else r)
theorem zs_knT {q : Nat → Bool} {i d j r : Nat} (h : q j = true) : zs_kn q i (d + 1) j r = zs_kn q i d (j + 1) (r &&& (255 ^^^ 2 ^ i)) := congrArg (zs_kn q i d (j + 1)) (if_pos h)
theorem zs_knF {q : Nat → Bool} {i d j r : Nat} (h : q j = false) : zs_kn q i (d + 1) j r = zs_kn q i d (j + 1) r := congrArg (zs_kn q i d (j + 1)) (if_neg (by rw [h]; decide))
theorem zs_knL {q : Nat → Bool} {i : Nat} : ∀ d j r, zs_kn q i d j r ≤ r := by
  intro d
  induction d with
  | zero => intro j r; exact Nat.le_refl r
  | succ d ih =>
    intro j r
    cases h : q j
    · rw [zs_knF h]; exact ih (j + 1) r
    · rw [zs_knT h]; exact Nat.le_trans (ih (j + 1) _) Nat.and_le_left
theorem zs_kn0 {q : Nat → Bool} {i : Nat} (h : ∀ j, q j = false) : ∀ d j r, zs_kn q i d j r = r := by
  intro d
  induction d with
  | zero => intro j r; rfl
  | succ d ih => intro j r; rw [zs_knF (h j)]; exact ih (j + 1) r
def zs_kt (q : Nat → Nat → Bool) (m : Nat) : Nat → Nat → Nat → Nat
  | 0, _, r => r
  | d + 1, i, r => zs_kt q m d (i + 1) (zs_kn (q i) i m 0 r)
theorem zs_ktS {q : Nat → Nat → Bool} {m d i r : Nat} : zs_kt q m (d + 1) i r = zs_kt q m d (i + 1) (zs_kn (q i) i m 0 r) := rfl
theorem zs_ktL {q : Nat → Nat → Bool} {m : Nat} : ∀ d i r, zs_kt q m d i r ≤ r := by
  intro d
  induction d with
  | zero => intro i r; exact Nat.le_refl r
  | succ d ih => intro i r; rw [zs_ktS]; exact Nat.le_trans (ih (i + 1) _) (zs_knL m 0 r)
def zs_mg (S : Nat → Nat) (ia : Nat → Int32) (st x : Nat) : Nat → Nat → Nat → Nat
  | 0, _, u => u
  | d + 1, k, u => zs_mg S ia st x d (k + 1) (u ||| (S (ia (x * 2 + k)).toNatClampNeg &&& (255 ^^^ st)))
def zs_u1 (S : Nat → Nat) (su fi : Nat → Int32) (x u : Nat) : Nat := if x = 0 then u else if fi x = 0 then u ||| S (su x).toNatClampNeg else u
/-! the choice among methods -/
def zs_an (q : Nat → Bool) : Nat → Nat → Int32 → Int32
  | 0, _, a => a
  | d + 1, j, a => zs_an q d (j + 1) (if q j = true then 0 else a)
theorem zs_anT {q : Nat → Bool} {d j : Nat} {a : Int32} (h : q j = true) : zs_an q (d + 1) j a = zs_an q d (j + 1) 0 := congrArg (zs_an q d (j + 1)) (if_pos h)
theorem zs_anF {q : Nat → Bool} {d j : Nat} {a : Int32} (h : q j = false) : zs_an q (d + 1) j a = zs_an q d (j + 1) a := congrArg (zs_an q d (j + 1)) (if_neg (by rw [h]; decide))
theorem zs_an0 {q : Nat → Bool} : ∀ d j, zs_an q d j 0 = 0 := by
  intro d
  induction d with
  | zero => intro j; rfl
  | succ d ih =>
    intro j
    cases h : q j
    · rw [zs_anF h]; exact ih (j + 1)
    · rw [zs_anT h]; exact ih (j + 1)
def zs_pq (su ic ia ty : Nat → Int32) (s i j : Nat) : Bool := decide (s.testBit j = true ∧ ¬ ty j = ty i ∧ ¬ zs_sub su ic ia (ty j) (ty i) = 0)
def zs_pk (su ic ia ty : Nat → Int32) (m s : Nat) : Nat → Nat → Int32
  | 0, _ => -2
  | d + 1, i => if s.testBit i = true ∧ ¬ zs_an (zs_pq su ic ia ty s i) m 0 1 = 0 then nI i else zs_pk su ic ia ty m s d (i + 1)
theorem zs_pkT {su ic ia ty : Nat → Int32} {m s d i : Nat} (h : s.testBit i = true ∧ ¬ zs_an (zs_pq su ic ia ty s i) m 0 1 = 0) : zs_pk su ic ia ty m s (d + 1) i = nI i := if_pos h
theorem zs_pkF {su ic ia ty : Nat → Int32} {m s d i : Nat} (h : ¬ (s.testBit i = true ∧ ¬ zs_an (zs_pq su ic ia ty s i) m 0 1 = 0)) : zs_pk su ic ia ty m s (d + 1) i = zs_pk su ic ia ty m s d (i + 1) := if_neg h
end
section
/-! the subtype walks, X's and Y's -/
section
variable {c m : Nat} {su fi ic ia ow im na pa ty fl sc fd : Nat → Int32} {se : Nat → Int64}
theorem zs_X90 {post : Int32 → Prop} {J : Int32 → Int32 → Prop} {t : Int32} {x K : Nat} (hx : x < 6) (hK : K ≤ 2) : ∀ (d k : Nat) (r : Int32), k + d = K → J (zs_ki ia x d k r) (nI x + (-1)) → wX_isSubtype_90 post J t (nI x) (nI K) (nI c) (nI m) su fi ic ia ow im na pa ty fl sc (d + 1) r (nI k) := by
  intro d
  induction d with
  | zero =>
    intro k r hk h
    exact br_t (nI_le (by omega) (by omega)) (nm_e h)
  | succ d ih =>
    intro k r hk h
    refine br_f (nI_ge (by omega) (by omega)) ?_
    rw [zs_ix x k, nI_clamp (n := x * 2 + k) (by omega)]
    exact ⟨vp_in_nI (by omega) (by omega), nm_e (nm_r (nI_1 k) (ih (k + 1) _ (by omega) h))⟩
theorem zs_Y49 {post : Int32 → Prop} {J : Int32 → Int32 → Prop} {t : Int32} {x K : Nat} (hx : x < 6) (hK : K ≤ 2) (e : ic x = nI K) : ∀ (d k : Nat) (r : Int32), k + d = K → J (zs_ki ia x d k r) (nI x + (-1)) → wY_sub_49 post J t (nI x) (nI c) (nI m) su fi ic ia ow im na pa ty fl fd se (d + 1) r (nI k) := by
  intro d
  induction d with
  | zero =>
    intro k r hk h
    refine And.intro (vp_in_nI hx (by omega)) ?_
    rw [nI_clamp (n := x) (by omega), e]
    exact br_t (nI_le (by omega) (by omega)) (nm_e h)
  | succ d ih =>
    intro k r hk h
    refine And.intro (vp_in_nI hx (by omega)) ?_
    rw [nI_clamp (n := x) (by omega), e]
    refine br_f (nI_ge (by omega) (by omega)) ?_
    rw [zs_ix x k, nI_clamp (n := x * 2 + k) (by omega)]
    exact ⟨vp_in_nI (by omega) (by omega), nm_e (nm_r (nI_1 k) (ih (k + 1) _ (by omega) h))⟩
theorem zs_X52 {post : Int32 → Prop} {t : Int32} (hic : ∀ x, zs_bl 3 (ic x)) : ∀ (x : Nat) (r : Int32), x < 6 → post (zs_rt (zs_re su ic ia x r) t) → wX_isSubtype_52 post t (nI c) (nI m) su fi ic ia ow im na pa ty fl sc (x + 1) r (nI x) := by
  intro x
  induction x with
  | zero =>
    intro r _ h
    refine br_t (by decide) ?_
    by_cases z : (r &&& ((1 : Int32) <<< (t &&& 31))) = 0
    · exact br_t z (by rw [zs_re, zs_rt, if_pos z] at h; exact h)
    · exact br_f z (by rw [zs_re, zs_rt, if_neg z] at h; exact h)
  | succ x ih =>
    intro r hx h
    obtain ⟨K, hK, e⟩ := hic (x + 1)
    refine br_f (nI_nle (by omega) (by omega)) ?_
    rw [nI_clamp (n := x + 1) (by omega)]
    by_cases z : (r &&& ((1 : Int32) <<< (nI (x + 1) &&& 31))) = 0
    · rw [zs_reT z] at h
      exact br_t z (nm_r (pk_m1 x) (ih r (by omega) h))
    · rw [zs_reF z, e, nI_clamp (n := K) (by omega)] at h
      refine br_f z ⟨vp_in_nI (by omega) (by omega), nm_e ⟨vp_in_nI (by omega) (by omega), nm_r e ⟨K + 1, ?_⟩⟩⟩
      exact zs_X90 (by omega) (by omega) K 0 _ (by omega) (by rw [pk_m1]; exact ih _ (by omega) h)
theorem zs_Y20 {post : Int32 → Prop} {t : Int32} (hc : c ≤ 6) (ht : zs_ok c t) (hic : ∀ x, zs_bl 3 (ic x)) : ∀ (x : Nat) (r : Int32), x < 6 → post (if t < 0 then 0 else zs_rt (zs_re su ic ia x r) t) → wY_sub_20 post t (nI c) (nI m) su fi ic ia ow im na pa ty fl fd se (x + 1) r (nI x) := by
  intro x
  induction x with
  | zero =>
    intro r _ h
    refine br_t (by decide) ?_
    by_cases z : t < 0
    · rw [if_pos z] at h
      exact br_t z h
    · rw [if_neg z, zs_re, zs_rt] at h
      rcases ht with rfl | ⟨q, hq, rfl⟩
      · exact absurd (by decide) z
      · by_cases y : (r &&& ((1 : Int32) <<< (nI q &&& 31))) = 0
        · rw [if_pos y] at h
          exact br_f z (br_t ((nf_bit r q (by omega)).mpr y) h)
        · rw [if_neg y] at h
          exact br_f z (br_f (fun w => y ((nf_bit r q (by omega)).mp w)) h)
  | succ x ih =>
    intro r hx h
    obtain ⟨K, hK, e⟩ := hic (x + 1)
    refine br_f (nI_nle (by omega) (by omega)) ?_
    rw [nI_clamp (n := x + 1) (by omega)]
    by_cases z : (r &&& ((1 : Int32) <<< (nI (x + 1) &&& 31))) = 0
    · rw [zs_reT z] at h
      exact br_t ((nf_bit r (x + 1) (by omega)).mpr z) (nm_r (pk_m1 x) (ih r (by omega) h))
    · rw [zs_reF z, e, nI_clamp (n := K) (by omega)] at h
      refine br_f (fun w => z ((nf_bit r (x + 1) (by omega)).mp w)) ⟨vp_in_nI (by omega) (by omega), nm_e ⟨K + 1, ?_⟩⟩
      exact zs_Y49 (by omega) (by omega) e K 0 _ (by omega) (by rw [pk_m1]; exact ih _ (by omega) h)
theorem zs_Xsub (hc : c ≤ 6) (hic : ∀ x, zs_bl 3 (ic x)) {s t : Int32} (hs : zs_ok c s) (ht : zs_ok c t) {post : Int32 → Prop} (h : post (zs_sub su ic ia s t)) : wpX_isSubtype post (nI c, nI m, su, fi, ic, ia, ow, im, na, pa, ty, fl, sc) s t := by
  have fs := zs_okf hc hs
  have ft := zs_okf hc ht
  unfold zs_sub at h
  refine br_f fs.1 (br_f fs.2.1 (br_f ft.1 (br_t ft.2.2 ?_)))
  by_cases e : s = t
  · rw [if_pos e] at h
    exact br_t e h
  · rw [if_neg e] at h
    refine br_f e ?_
    rcases hs with rfl | ⟨j, hj, rfl⟩
    · rw [if_pos (by decide)] at h
      exact br_t (by decide) h
    · rw [if_neg (nI_pos (by omega))] at h
      refine br_f (nI_pos (by omega)) ?_
      by_cases z : t < 0
      · rw [if_pos z] at h
        exact br_f (fun w => absurd z (Int32.not_lt.mpr w)) h
      · rw [if_neg z, nI_clamp (n := j) (by omega)] at h
        exact br_t (Int32.not_lt.mp z) (nm_e ⟨j + 1, zs_X52 hic j _ (by omega) h⟩)
theorem zs_Ysub (hc : c ≤ 6) (hic : ∀ x, zs_bl 3 (ic x)) {s t : Int32} (hs : zs_ok c s) (ht : zs_ok c t) {post : Int32 → Prop} (h : post (zs_sub su ic ia s t)) : wpY_sub post (nI c, nI m, su, fi, ic, ia, ow, im, na, pa, ty, fl, fd, se) s t := by
  unfold zs_sub at h
  by_cases e : s = t
  · rw [if_pos e] at h
    exact br_t e h
  · rw [if_neg e] at h
    refine br_f e ?_
    rcases hs with rfl | ⟨j, hj, rfl⟩
    · rw [if_pos (by decide)] at h
      exact br_f (by decide) h
    · rw [if_neg (nI_pos (by omega)), nI_clamp (n := j) (by omega)] at h
      by_cases j0 : j = 0
      · subst j0
        refine br_f (by decide) ?_
        by_cases z : t < 0
        · rw [if_pos z] at h
          exact h
        · rw [if_neg z] at h
          rcases ht with rfl | ⟨q, hq, rfl⟩
          · exact absurd (by decide) z
          · have q0 : q ≠ 0 := fun w => e (by rw [w])
            have w : zs_rt (zs_re su ic ia 0 ((1 : Int32) <<< (nI 0 &&& 31))) (nI q) = 0 := (by decide : ∀ q, q < 6 → q ≠ 0 → zs_rt ((1 : Int32) <<< (nI 0 &&& 31)) (nI q) = 0) q (by omega) q0
            rw [w] at h
            exact h
      · exact br_t (nI_lt (a := 0) (by omega) (by omega)) (nm_e ⟨j + 1, zs_Y20 hc ht hic j _ (by omega) h⟩)
/-! Y's small helpers -/
theorem zs_Yk1 {post : Int32 → Prop} {p : Nat} (hc : c ≤ 6) (hp : p < c) (h : post 1) : wpY_known post (nI c, nI m, su, fi, ic, ia, ow, im, na, pa, ty, fl, fd, se) (nI p) := br_f (nI_pos (by omega)) (br_f (nI_ge hp (by omega)) h)
theorem zs_Yk0 {post : Int32 → Prop} {p : Int32} (hp : p < 0 ∨ nI c ≤ p) (h : post 0) : wpY_known post (nI c, nI m, su, fi, ic, ia, ow, im, na, pa, ty, fl, fd, se) p := br_c (fun _ => h) (fun z => br_t (hp.resolve_left z) h)
theorem zs_Yin {post : Int32 → Prop} {s j : Nat} (hs : s < 256) (hj : j < 8) (h0 : s.testBit j = false → post 0) (h1 : s.testBit j = true → post 1) : wpY_in post (nI c, nI m, su, fi, ic, ia, ow, im, na, pa, ty, fl, fd, se) (lN s) (nI j) := br_c (fun z => h0 ((zs_yt s hs j hj).mp z)) (fun z => h1 (ts_nf (fun w => z ((zs_yt s hs j hj).mpr w))))
theorem zs_Yfirst {post : Int32 → Prop} {s : Nat} (hm : m ≤ 8) (hs : s < 256) (h : post (zs_ft (Nat.testBit s) m 0)) : wpY_first post (nI c, nI m, su, fi, ic, ia, ow, im, na, pa, ty, fl, fd, se) (lN s) := by
  have key : ∀ d i, i + d = m → post (zs_ft (Nat.testBit s) d i) → wY_first_2 post (lN s) (nI c) (nI m) su fi ic ia ow im na pa ty fl fd se (d + 1) (nI i) := by
    intro d
    induction d with
    | zero => intro i hi h; exact br_t (nI_le (by omega) (by omega)) h
    | succ d ih =>
      intro i hi h
      refine br_f (nI_ge (by omega) (by omega)) (zs_Yin hs (by omega) ?_ ?_)
      · intro z
        rw [zs_ftF z] at h
        exact br_t rfl (nm_r (nI_1 i) (ih (i + 1) (by omega) h))
      · intro z
        rw [zs_ftT z] at h
        exact br_f (by decide) h
  exact ⟨m + 1, key m 0 (by omega) h⟩
theorem zs_Ydecl {post : Int64 → Prop} {o b n p f : Int32} (hm : m ≤ 8) (h : post (lN (zs_mk (zs_q ow im na pa fl o b n p f) m))) : wpY_decl post (nI c, nI m, su, fi, ic, ia, ow, im, na, pa, ty, fl, fd, se) o b n p f := by
  have key : ∀ d i, i + d = m → wY_decl_6 post o b n p f (nI c) (nI m) su fi ic ia ow im na pa ty fl fd se (d + 1) (lN (zs_mk (zs_q ow im na pa fl o b n p f) i)) (nI i) := by
    intro d
    induction d with
    | zero =>
      intro i hi
      rw [show i = m from hi]
      exact br_t (nI_le (by omega) (by omega)) h
    | succ d ih =>
      intro i hi
      have hv : vp_in (nI i) 8 := vp_in_nI (by omega) (by omega)
      have H := ih (i + 1) (by omega)
      have sk : zs_q ow im na pa fl o b n p f i = false → wY_decl_6 post o b n p f (nI c) (nI m) su fi ic ia ow im na pa ty fl fd se (d + 1) (lN (zs_mk (zs_q ow im na pa fl o b n p f) i)) (nI (i + 1)) := fun z => by rw [zs_mkF z] at H; exact H
      have st : zs_q ow im na pa fl o b n p f i = true → wY_decl_6 post o b n p f (nI c) (nI m) su fi ic ia ow im na pa ty fl fd se (d + 1) (lN (zs_mk (zs_q ow im na pa fl o b n p f) i) ||| ((1 : Int64) <<< ((nI i).toInt64 &&& 63))) (nI (i + 1)) := fun z => by rw [zs_mkT z] at H; rw [zs_ys _ (zs_mk8 (by omega)) i (by omega)]; exact H
      refine br_f (nI_ge (by omega) (by omega)) ⟨hv, ?_⟩
      rw [nI_clamp (n := i) (by omega)]
      by_cases h1 : im i = b
      · refine br_t h1 ⟨hv, ?_⟩
        by_cases h2 : ow i = o
        · refine br_t h2 ⟨hv, ?_⟩
          by_cases h3 : na i = n
          · refine br_t h3 ⟨hv, ?_⟩
            by_cases h4 : pa i = p
            · refine br_t h4 ?_
              by_cases h5 : f = 0
              · exact br_t h5 (nm_e (nm_r (nI_1 i) (st (decide_eq_true ⟨h1, h2, h3, h4, Or.inl h5⟩))))
              · refine br_f h5 ⟨hv, ?_⟩
                by_cases h6 : (fl i &&& 1) = 0
                · exact br_t h6 (nm_r (nI_1 i) (sk (decide_eq_false (fun z => z.2.2.2.2.elim h5 (fun w => w h6)))))
                · exact br_f h6 (nm_e (nm_r (nI_1 i) (st (decide_eq_true ⟨h1, h2, h3, h4, Or.inr h6⟩))))
            · exact br_f h4 (nm_r (nI_1 i) (sk (decide_eq_false (fun z => h4 z.2.2.2.1))))
          · exact br_f h3 (nm_r (nI_1 i) (sk (decide_eq_false (fun z => h3 z.2.2.1))))
        · exact br_f h2 (nm_r (nI_1 i) (sk (decide_eq_false (fun z => h2 z.2.1))))
      · exact br_f h1 (nm_r (nI_1 i) (sk (decide_eq_false (fun z => h1 z.1))))
  exact ⟨m + 1, key m 0 (by omega)⟩
theorem zs_Ybeats (hc : c ≤ 6) (hic : ∀ x, zs_bl 3 (ic x)) (hfi : ∀ x, fi x = 0 ∨ fi x = 1) {a b : Nat} (ha : a < c) (hb : b < c) {post : Int32 → Prop} (h : post (zs_bt su fi ic ia (nI a) (nI b))) : wpY_beats post (nI c, nI m, su, fi, ic, ia, ow, im, na, pa, ty, fl, fd, se) (nI a) (nI b) := by
  unfold zs_bt at h
  have va : vp_in (nI a) 6 := vp_in_nI (by omega) (by omega)
  have vb : vp_in (nI b) 6 := vp_in_nI (by omega) (by omega)
  refine And.intro va (And.intro vb ?_)
  by_cases e : fi (nI a).toNatClampNeg = fi (nI b).toNatClampNeg
  · rw [if_pos e] at h
    exact br_t e (zs_Ysub hc hic (Or.inr ⟨a, ha, rfl⟩) (Or.inr ⟨b, hb, rfl⟩) ⟨zs_nb (zs_sub01 _ _ _ _ _), h⟩)
  · rw [if_neg e] at h
    exact br_f e ⟨vb, zs_nb (hfi _), h⟩
end
end
section
/-! the fields' walks -/
section
variable {c m : Nat} {su fi ic ia ow im na pa ty fl sc fd : Nat → Int32} {se : Nat → Int64}
theorem zs_X160 {post : Int32 → SX → Prop} {J : Int32 → (Nat → Int32) → (Nat → Int32) → (Nat → Int32) → (Nat → Int32) → (Nat → Int32) → (Nat → Int32) → (Nat → Int32) → (Nat → Int32) → (Nat → Int32) → (Nat → Int32) → (Nat → Int32) → Prop} {C n a : Int32} {x : Nat} (hx : x < 6) (hs : 0 < x → zs_bl x (su x)) (hA : ∀ y, y < x → zs_fd (sc y)) (ha : zs_fd a) (h : J (nI (x + 1)) su fi ic ia ow im na pa ty fl (upd sc x (zs_fs sc su fi x a))) : wX_getField_160 post J C n (nI x) a (nI c) (nI m) su fi ic ia ow im na pa ty fl sc := by
  have hv : vp_in (nI x) 6 := vp_in_nI hx (by omega)
  unfold wX_getField_160
  rw [nI_clamp (n := x) (by omega)]
  unfold zs_fs at h
  by_cases h1 : 0 ≤ a
  · rw [if_pos h1] at h
    exact br_t h1 ⟨hv, nm_e (nm_r (nI_1 x) h)⟩
  · rw [if_neg h1] at h
    refine br_f h1 ?_
    by_cases h2 : x = 0
    · rw [if_pos h2] at h
      exact br_t (by rw [h2]; rfl) ⟨hv, nm_e (nm_r (nI_1 x) h)⟩
    · rw [if_neg h2] at h
      refine br_f (nI_ne0 (by omega) (by omega)) ⟨hv, ?_⟩
      by_cases h3 : fi x = 0
      · rw [if_pos h3] at h
        obtain ⟨j, hj, e⟩ := hs (by omega)
        rw [e, nI_clamp (n := j) (by omega)] at h
        rw [e, nI_clamp (n := j) (by omega)]
        refine br_t h3 ⟨hv, vp_in_nI (by omega) (by omega), nm_e ?_⟩
        by_cases h4 : sc j < 0
        · have q : a = sc j := zs_fdn ha h1 (hA j hj) h4
          exact br_t h4 ⟨hv, nm_e (nm_r (nI_1 x) (by rw [q]; exact h))⟩
        · exact br_f h4 ⟨hv, nm_e (nm_r (nI_1 x) h)⟩
      · rw [if_neg h3] at h
        exact br_f h3 ⟨hv, nm_e (nm_r (nI_1 x) h)⟩
theorem zs_X114 {post : Int32 → SX → Prop} {J : Int32 → (Nat → Int32) → (Nat → Int32) → (Nat → Int32) → (Nat → Int32) → (Nat → Int32) → (Nat → Int32) → (Nat → Int32) → (Nat → Int32) → (Nat → Int32) → (Nat → Int32) → (Nat → Int32) → Prop} {C n : Int32} {x K : Nat} (hx : x < 6) (hK : K ≤ 2) (hs : 0 < x → zs_bl x (su x)) (hA : ∀ y, y < x → zs_fd (sc y)) (hia : ∀ k, k < K → zs_bl x (ia (x * 2 + k))) : ∀ (d k : Nat) (a : Int32), k + d = K → zs_fd a → J (nI (x + 1)) su fi ic ia ow im na pa ty fl (upd sc x (zs_fs sc su fi x (zs_fi sc ia x d k a))) → wX_getField_114 post J C n (nI x) (nI K) (nI c) (nI m) su fi ic ia ow im na pa ty fl sc (d + 1) a (nI k) := by
  intro d
  induction d with
  | zero =>
    intro k a hk ha h
    exact br_t (nI_le (by omega) (by omega)) (zs_X160 hx hs hA ha h)
  | succ d ih =>
    intro k a hk ha h
    refine br_f (nI_ge (by omega) (by omega)) ?_
    by_cases h1 : 0 ≤ a
    · rw [zs_fiT h1] at h
      exact br_t h1 (zs_X160 hx hs hA ha h)
    · obtain ⟨j, hj, e⟩ := hia k (by omega)
      rw [zs_fiF h1, e, nI_clamp (n := j) (by omega)] at h
      refine br_f h1 ?_
      rw [zs_ix x k, nI_clamp (n := x * 2 + k) (by omega), e, nI_clamp (n := j) (by omega)]
      refine ⟨vp_in_nI (by omega) (by omega), vp_in_nI (by omega) (by omega), nm_e ?_⟩
      by_cases h2 : sc j < 0
      · have q : a = sc j := zs_fdn ha h1 (hA j hj) h2
        exact br_t h2 (nm_r (nI_1 k) (ih (k + 1) a (by omega) ha (by rw [q]; exact h)))
      · exact br_f h2 (nm_r (nI_1 k) (ih (k + 1) (sc j) (by omega) (hA j hj) h))
theorem zs_X33 {post : Int32 → SX → Prop} {J : Int32 → (Nat → Int32) → (Nat → Int32) → (Nat → Int32) → (Nat → Int32) → (Nat → Int32) → (Nat → Int32) → (Nat → Int32) → (Nat → Int32) → (Nat → Int32) → (Nat → Int32) → (Nat → Int32) → Prop} {C n : Int32} {x K : Nat} (hm : m ≤ 8) (hx : x < 6) (hK : K ≤ 2) (hik : ic x = nI K) (hs : 0 < x → zs_bl x (su x)) (hA : ∀ y, y < x → zs_fd (sc y)) (hia : ∀ k, k < K → zs_bl x (ia (x * 2 + k))) (hfp : ∀ i, i < m → im i = 0 → pa i = 0) : ∀ d i, i + d = m → J (nI (x + 1)) su fi ic ia ow im na pa ty fl (upd sc x (zs_fs sc su fi x (zs_fi sc ia x K 0 (zs_ft (zs_q ow im na pa fl (nI x) 0 n 0 1) d i)))) → wX_getField_33 post J C n (nI x) (nI c) (nI m) su fi ic ia ow im na pa ty fl sc (d + 1 + 1) (-1) (nI i) := by
  have hv : vp_in (nI x) 6 := vp_in_nI hx (by omega)
  have fin : ∀ a : Int32, zs_fd a → J (nI (x + 1)) su fi ic ia ow im na pa ty fl (upd sc x (zs_fs sc su fi x (zs_fi sc ia x K 0 a))) → (vp_in (nI x) 6 ∧ (∀ y : Int32, y = ic (nI x).toNatClampNeg → (∃ n114 : Nat, wX_getField_114 post J C n (nI x) y (nI c) (nI m) su fi ic ia ow im na pa ty fl sc n114 a 0))) := fun a ha h => ⟨hv, nm_r (by rw [nI_clamp (n := x) (by omega)]; exact hik) ⟨K + 1, zs_X114 hx hK hs hA hia K 0 a (by omega) ha h⟩⟩
  intro d
  induction d with
  | zero =>
    intro i hi h
    exact br_t (nI_le (by omega) (by omega)) (fin (-1) (Or.inl rfl) h)
  | succ d ih =>
    intro i hi h
    have hv8 : vp_in (nI i) 8 := vp_in_nI (by omega) (by omega)
    have sk : zs_q ow im na pa fl (nI x) 0 n 0 1 i = false → wX_getField_33 post J C n (nI x) (nI c) (nI m) su fi ic ia ow im na pa ty fl sc (d + 1 + 1) (-1) (nI (i + 1)) := fun z => ih (i + 1) (by omega) (by rw [zs_ftF z] at h; exact h)
    refine br_f (nI_ge (by omega) (by omega)) (br_f (by decide) ⟨hv8, ?_⟩)
    rw [nI_clamp (n := i) (by omega)]
    by_cases h1 : im i = 0
    · refine br_t h1 ⟨hv8, ?_⟩
      by_cases h2 : ow i = nI x
      · refine br_t h2 ⟨hv8, ?_⟩
        by_cases h3 : na i = n
        · refine br_t h3 ⟨hv8, ?_⟩
          by_cases h4 : (fl i &&& 1) = 0
          · exact br_t h4 (nm_r (nI_1 i) (sk (decide_eq_false (fun z => z.2.2.2.2.elim (by decide) (fun w => w h4)))))
          · have z : zs_q ow im na pa fl (nI x) 0 n 0 1 i = true := decide_eq_true ⟨h1, h2, h3, hfp i (by omega) h1, Or.inr h4⟩
            rw [zs_ftT z] at h
            have F := fin (nI i) (Or.inr (nI_pos' (by omega))) h
            refine br_f h4 (nm_r (nI_1 i) ?_)
            exact br_c (fun _ => F) (fun _ => br_t (nI_pos' (by omega)) F)
        · exact br_f h3 (nm_r (nI_1 i) (sk (decide_eq_false (fun z => h3 z.2.2.1))))
      · exact br_f h2 (nm_r (nI_1 i) (sk (decide_eq_false (fun z => h2 z.2.1))))
    · exact br_f h1 (nm_r (nI_1 i) (sk (decide_eq_false (fun z => h1 z.1))))
theorem zs_Y65 {post : Int32 → SY → Prop} {J : Int32 → (Nat → Int32) → (Nat → Int32) → (Nat → Int32) → (Nat → Int32) → (Nat → Int32) → (Nat → Int32) → (Nat → Int32) → (Nat → Int32) → (Nat → Int32) → (Nat → Int32) → (Nat → Int32) → (Nat → Int64) → Prop} {C n a : Int32} {x : Nat} (hx : x < 6) (hs : 0 < x → zs_bl x (su x)) (hE : ∀ y, y < x → fd y = sc y) (h : J (nI (x + 1)) su fi ic ia ow im na pa ty fl (upd fd x (zs_fs sc su fi x a)) se) : wY_field_65 post J C n (nI x) a (nI c) (nI m) su fi ic ia ow im na pa ty fl fd se := by
  have hv : vp_in (nI x) 6 := vp_in_nI hx (by omega)
  unfold wY_field_65
  rw [nI_clamp (n := x) (by omega)]
  unfold zs_fs at h
  by_cases h1 : 0 ≤ a
  · rw [if_pos h1] at h
    exact br_t h1 ⟨hv, nm_e (nm_r (nI_1 x) h)⟩
  · rw [if_neg h1] at h
    refine br_f h1 ?_
    by_cases h2 : x = 0
    · rw [if_pos h2] at h
      exact br_t (by rw [h2]; rfl) ⟨hv, nm_e (nm_r (nI_1 x) h)⟩
    · rw [if_neg h2] at h
      refine br_f (nI_ne0 (by omega) (by omega)) ⟨hv, ?_⟩
      by_cases h3 : fi x = 0
      · rw [if_pos h3] at h
        obtain ⟨j, hj, e⟩ := hs (by omega)
        rw [e, nI_clamp (n := j) (by omega)] at h
        rw [e, nI_clamp (n := j) (by omega)]
        exact br_t h3 ⟨hv, vp_in_nI (by omega) (by omega), nm_r (hE j hj) ⟨hv, nm_e (nm_r (nI_1 x) h)⟩⟩
      · rw [if_neg h3] at h
        exact br_f h3 ⟨hv, nm_e (nm_r (nI_1 x) h)⟩
theorem zs_Y25 {post : Int32 → SY → Prop} {J : Int32 → (Nat → Int32) → (Nat → Int32) → (Nat → Int32) → (Nat → Int32) → (Nat → Int32) → (Nat → Int32) → (Nat → Int32) → (Nat → Int32) → (Nat → Int32) → (Nat → Int32) → (Nat → Int32) → (Nat → Int64) → Prop} {C n : Int32} {x K : Nat} (hx : x < 6) (hK : K ≤ 2) (hik : ic x = nI K) (hs : 0 < x → zs_bl x (su x)) (hE : ∀ y, y < x → fd y = sc y) (hia : ∀ k, k < K → zs_bl x (ia (x * 2 + k))) : ∀ (d k : Nat) (a : Int32), k + d = K → J (nI (x + 1)) su fi ic ia ow im na pa ty fl (upd fd x (zs_fs sc su fi x (zs_fi sc ia x d k a))) se → wY_field_25 post J C n (nI x) (nI c) (nI m) su fi ic ia ow im na pa ty fl fd se (d + 1) a (nI k) := by
  have hv : vp_in (nI x) 6 := vp_in_nI hx (by omega)
  intro d
  induction d with
  | zero =>
    intro k a hk h
    have F := zs_Y65 (post := post) (C := C) (n := n) (c := c) (m := m) hx hs hE h
    by_cases h1 : 0 ≤ a
    · exact br_t h1 F
    · refine br_f h1 ⟨hv, ?_⟩
      rw [nI_clamp (n := x) (by omega), hik]
      exact br_t (nI_le (by omega) (by omega)) F
  | succ d ih =>
    intro k a hk h
    by_cases h1 : 0 ≤ a
    · rw [zs_fiT h1] at h
      exact br_t h1 (zs_Y65 hx hs hE h)
    · obtain ⟨j, hj, e⟩ := hia k (by omega)
      rw [zs_fiF h1, e, nI_clamp (n := j) (by omega)] at h
      refine br_f h1 ⟨hv, ?_⟩
      rw [nI_clamp (n := x) (by omega), hik]
      refine br_f (nI_ge (by omega) (by omega)) ?_
      rw [zs_ix x k, nI_clamp (n := x * 2 + k) (by omega), e, nI_clamp (n := j) (by omega)]
      exact ⟨vp_in_nI (by omega) (by omega), vp_in_nI (by omega) (by omega), nm_r (hE j hj) (nm_r (nI_1 k) (ih (k + 1) (sc j) (by omega) h))⟩
theorem zs_fq {q : Nat → Bool} : zs_ft (Nat.testBit (zs_mk q m)) m 0 = zs_ft q m 0 := zs_ftc m 0 (fun j hj => by rw [zs_mkB, decide_eq_true (show j < m by omega), Bool.true_and])
/-- the value that both sides store at type x -/
def zs_fv (sc su fi ia ow im na pa fl : Nat → Int32) (m x K : Nat) (n : Int32) : Int32 := zs_fs sc su fi x (zs_fi sc ia x K 0 (zs_ft (zs_q ow im na pa fl (nI x) 0 n 0 1) m 0))
theorem zs_fid {A : Nat → Int32} {x K : Nat} (hx : x < 6) (hA : ∀ y, y < x → zs_fd (A y)) (hia : ∀ k, k < K → zs_bl x (ia (x * 2 + k))) : ∀ (d k : Nat) (a : Int32), k + d = K → zs_fd a → zs_fd (zs_fi A ia x d k a) := by
  intro d
  induction d with
  | zero => intro k a _ ha; exact ha
  | succ d ih =>
    intro k a hk ha
    by_cases h1 : 0 ≤ a
    · rw [zs_fiT h1]; exact ha
    · obtain ⟨j, hj, e⟩ := hia k (by omega)
      rw [zs_fiF h1, e, nI_clamp (n := j) (by omega)]
      exact ih (k + 1) _ (by omega) (hA j hj)
theorem zs_fvd {n : Int32} {x K : Nat} (hm : m ≤ 8) (hx : x < 6) (hs : 0 < x → zs_bl x (su x)) (hA : ∀ y, y < x → zs_fd (sc y)) (hia : ∀ k, k < K → zs_bl x (ia (x * 2 + k))) : zs_fd (zs_fv sc su fi ia ow im na pa fl m x K n) := by
  unfold zs_fv zs_fs
  have h := zs_fid hx hA hia K 0 (zs_ft (zs_q ow im na pa fl (nI x) 0 n 0 1) m 0) (by omega) (zs_ftd m 0 (by omega))
  by_cases h1 : 0 ≤ zs_fi sc ia x K 0 (zs_ft (zs_q ow im na pa fl (nI x) 0 n 0 1) m 0)
  · rw [if_pos h1]; exact h
  · rw [if_neg h1]
    by_cases h2 : x = 0
    · rw [if_pos h2]; exact h
    · rw [if_neg h2]
      by_cases h3 : fi x = 0
      · obtain ⟨j, hj, e⟩ := hs (by omega)
        rw [if_pos h3, e, nI_clamp (n := j) (by omega)]
        exact hA j hj
      · rw [if_neg h3]; exact h
/-- both outer loops, in lockstep -/
theorem zs_gf {n : Int32} {C : Nat} (hc : c ≤ 6) (hm : m ≤ 8) (hC : C < c) (hsu : ∀ x, x < c → 0 < x → zs_bl x (su x)) (hic : ∀ x, zs_bl 3 (ic x)) (hia : ∀ x k, x < c → k < (ic x).toNatClampNeg → zs_bl x (ia (x * 2 + k))) (hfp : ∀ i, i < m → im i = 0 → pa i = 0) : ∀ (d x : Nat) (sc fd : Nat → Int32), x + d = C + 1 → (∀ y, y < x → fd y = sc y) → (∀ y, y < x → zs_fd (sc y)) → ∃ (r : Int32) (sc' fd' : Nat → Int32), (∀ post : Int32 → SX → Prop, post r (nI c, nI m, su, fi, ic, ia, ow, im, na, pa, ty, fl, sc') → wX_getField_21 post (nI C) n (nI c) (nI m) (d + 1) (nI x) su fi ic ia ow im na pa ty fl sc) ∧ (∀ post : Int32 → SY → Prop, post r (nI c, nI m, su, fi, ic, ia, ow, im, na, pa, ty, fl, fd', se) → wY_field_2 post (nI C) n (nI c) (nI m) (d + 1) (nI x) su fi ic ia ow im na pa ty fl fd se) := by
  intro d
  induction d with
  | zero =>
    intro x sc fd hx hE hA
    refine ⟨sc C, sc, fd, fun post h => br_t (nI_lt (by omega) (by omega)) ⟨vp_in_nI (by omega) (by omega), ?_⟩, fun post h => br_t (nI_lt (by omega) (by omega)) ⟨vp_in_nI (by omega) (by omega), ?_⟩⟩
    · rw [nI_clamp (n := C) (by omega)]; exact h
    · rw [nI_clamp (n := C) (by omega), hE C (by omega)]; exact h
  | succ d ih =>
    intro x sc fd hx hE hA
    obtain ⟨K, hK, e⟩ := hic x
    have hs := hsu x (by omega)
    have hi : ∀ k, k < K → zs_bl x (ia (x * 2 + k)) := fun k hk => hia x k (by omega) (by rw [e, nI_clamp (n := K) (by omega)]; exact hk)
    have hv := zs_fvd (n := n) (fi := fi) (ow := ow) (im := im) (na := na) (pa := pa) (fl := fl) hm (by omega) hs hA hi
    obtain ⟨r, sc', fd', kX, kY⟩ := ih (x + 1) (upd sc x (zs_fv sc su fi ia ow im na pa fl m x K n)) (upd fd x (zs_fv sc su fi ia ow im na pa fl m x K n)) (by omega) (by
      intro y hy
      by_cases z : y = x
      · rw [z, pk_us, pk_us]
      · rw [pk_un z, pk_un z]; exact hE y (by omega)) (by
      intro y hy
      by_cases z : y = x
      · rw [z, pk_us]; exact hv
      · rw [pk_un z]; exact hA y (by omega))
    refine ⟨r, sc', fd', fun post h => br_f (nI_nlt (by omega) (by omega)) ⟨m + 1 + 1, ?_⟩, fun post h => br_f (nI_nlt (by omega) (by omega)) ?_⟩
    · exact zs_X33 hm (by omega) (by omega) e hs hA hi hfp m 0 (by omega) (kX post h)
    · refine zs_Ydecl hm (zs_Yfirst hm (zs_mk8 hm) ⟨K + 1, ?_⟩)
      rw [zs_fq]
      exact zs_Y25 (by omega) (by omega) e hs hE hi K 0 _ (by omega) (kY post h)
/-- X's declared field -/
theorem zs_Xdf {post : Int32 → Prop} {o n : Int32} (hm : m ≤ 8) (hfp : ∀ i, i < m → im i = 0 → pa i = 0) : ∀ d i, i + d = m → post (zs_ft (zs_q ow im na pa fl o 0 n 0 0) d i) → wX_getDeclaredField_21 post o n (nI c) (nI m) su fi ic ia ow im na pa ty fl sc (d + 1) (nI i) := by
  intro d
  induction d with
  | zero => intro i hi h; exact br_t (nI_le (by omega) (by omega)) h
  | succ d ih =>
    intro i hi h
    have hv8 : vp_in (nI i) 8 := vp_in_nI (by omega) (by omega)
    have sk : zs_q ow im na pa fl o 0 n 0 0 i = false → wX_getDeclaredField_21 post o n (nI c) (nI m) su fi ic ia ow im na pa ty fl sc (d + 1) (nI (i + 1)) := fun z => ih (i + 1) (by omega) (by rw [zs_ftF z] at h; exact h)
    refine br_f (nI_ge (by omega) (by omega)) ⟨hv8, ?_⟩
    rw [nI_clamp (n := i) (by omega)]
    by_cases h1 : im i = 0
    · refine br_t h1 ⟨hv8, ?_⟩
      by_cases h2 : ow i = o
      · refine br_t h2 ⟨hv8, ?_⟩
        by_cases h3 : na i = n
        · rw [zs_ftT (decide_eq_true ⟨h1, h2, h3, hfp i (by omega) h1, Or.inl rfl⟩)] at h
          exact br_t h3 h
        · exact br_f h3 (nm_r (nI_1 i) (sk (decide_eq_false (fun z => h3 z.2.2.1))))
      · exact br_f h2 (nm_r (nI_1 i) (sk (decide_eq_false (fun z => h2 z.2.1))))
    · exact br_f h1 (nm_r (nI_1 i) (sk (decide_eq_false (fun z => h1 z.1))))
end
end
section
/-! the methods' walks: X -/
section
variable {c m : Nat} {su fi ic ia ow im na pa ty fl sc fd : Nat → Int32} {se : Nat → Int64}
theorem zs_X43 {post : Int32 → SX → Prop} {C n p : Int32} (hm : m ≤ 8) (h : ∃ n83 : Nat, wX_getMethod_83 post C n p (nI (zs_mk (zs_st fl) m)) (nI c) (nI m) n83 0 su fi ic ia ow im na pa ty fl sc) : ∀ d i, i + d = m → wX_getMethod_43 post C n p (nI c) (nI m) su fi ic ia ow im na pa ty fl sc (d + 1) (nI (zs_mk (zs_st fl) i)) (nI i) := by
  intro d
  induction d with
  | zero =>
    intro i hi
    rw [show i = m from hi]
    exact br_t (nI_le (by omega) (by omega)) h
  | succ d ih =>
    intro i hi
    have H := ih (i + 1) (by omega)
    refine br_f (nI_ge (by omega) (by omega)) ⟨vp_in_nI (by omega) (by omega), ?_⟩
    rw [nI_clamp (n := i) (by omega)]
    by_cases h1 : (fl i &&& 8) = 0
    · rw [zs_mkF (decide_eq_false (fun z => z h1))] at H
      exact br_t h1 (nm_r (nI_1 i) H)
    · rw [zs_mkT (decide_eq_true h1)] at H
      exact br_f h1 (nm_r (zs_xs _ (zs_mk8 (by omega)) i (by omega)) (nm_r (nI_1 i) H))
theorem zs_X416 {post : Int32 → SX → Prop} {J83 : Int32 → (Nat → Int32) → (Nat → Int32) → (Nat → Int32) → (Nat → Int32) → (Nat → Int32) → (Nat → Int32) → (Nat → Int32) → (Nat → Int32) → (Nat → Int32) → (Nat → Int32) → (Nat → Int32) → Prop} {J268 J302 : Int32 → Int32 → Prop} {C n p st y u om b : Int32} {r i j : Nat} (hr : r < 256) (hi : i < 8) (h : J302 (nI (if b = 0 then r else r &&& (255 ^^^ 2 ^ i))) (nI (j + 1))) : wX_getMethod_416 post J83 J268 J302 C n p st y u (nI r) (nI i) om (nI j) b (nI c) (nI m) su fi ic ia ow im na pa ty fl sc := by
  unfold wX_getMethod_416
  by_cases z : b = 0
  · rw [if_pos z] at h
    exact br_t z (nm_r (nI_1 j) h)
  · rw [if_neg z] at h
    exact br_f z (nm_r (zs_xc r hr i hi) (nm_r (nI_1 j) h))
theorem zs_X383 {post : Int32 → SX → Prop} {J83 : Int32 → (Nat → Int32) → (Nat → Int32) → (Nat → Int32) → (Nat → Int32) → (Nat → Int32) → (Nat → Int32) → (Nat → Int32) → (Nat → Int32) → (Nat → Int32) → (Nat → Int32) → (Nat → Int32) → Prop} {J268 J302 : Int32 → Int32 → Prop} {C n p st y u : Int32} {r i j a b : Nat} (hc : c ≤ 6) (hic : ∀ x, zs_bl 3 (ic x)) (ha : a < c) (hb : b < c) (hz : ¬ fi a = fi b → fi b = 0) (hr : r < 256) (hi : i < 8) (h : J302 (nI (if zs_bt su fi ic ia (nI a) (nI b) = 0 then r else r &&& (255 ^^^ 2 ^ i))) (nI (j + 1))) : wX_getMethod_383 post J83 J268 J302 C n p st y u (nI r) (nI i) (nI b) (nI j) (nI a) (nI c) (nI m) su fi ic ia ow im na pa ty fl sc := by
  unfold wX_getMethod_383
  unfold zs_bt at h
  rw [nI_clamp (n := a) (by omega), nI_clamp (n := b) (by omega)] at h
  rw [nI_clamp (n := a) (by omega), nI_clamp (n := b) (by omega)]
  refine ⟨vp_in_nI (by omega) (by omega), vp_in_nI (by omega) (by omega), ?_⟩
  by_cases e : fi a = fi b
  · rw [if_pos e] at h
    exact br_t e (zs_Xsub hc hic (Or.inr ⟨a, ha, rfl⟩) (Or.inr ⟨b, hb, rfl⟩) (zs_X416 hr hi h))
  · rw [if_neg e, hz e] at h
    exact br_f e (zs_X416 hr hi h)
theorem zs_X302 {post : Int32 → SX → Prop} {J83 : Int32 → (Nat → Int32) → (Nat → Int32) → (Nat → Int32) → (Nat → Int32) → (Nat → Int32) → (Nat → Int32) → (Nat → Int32) → (Nat → Int32) → (Nat → Int32) → (Nat → Int32) → (Nat → Int32) → Prop} {J268 : Int32 → Int32 → Prop} {C n p st y : Int32} {u i b : Nat} (hc : c ≤ 6) (hm : m ≤ 8) (hic : ∀ x, zs_bl 3 (ic x)) (hfi : ∀ x, fi x = 0 ∨ fi x = 1) (how : ∀ i, i < m → zs_bl c (ow i)) (hu : u < 256) (hi : i < m) (hb : u.testBit i = true) (hbc : b < c) (eb : ow i = nI b) : ∀ d j r, j + d = m → r < 256 → J268 (nI (zs_kn (zs_cd su fi ic ia ow ty u i) i d j r)) (nI (i + 1)) → wX_getMethod_302 post J83 J268 C n p st y (nI u) (nI i) (nI b) (nI c) (nI m) su fi ic ia ow im na pa ty fl sc (d + 1) (nI r) (nI j) := by
  intro d
  induction d with
  | zero =>
    intro j r hj hr h
    exact br_t (nI_le (by omega) (by omega)) (nm_r (nI_1 i) h)
  | succ d ih =>
    intro j r hj hr h
    have sk : zs_cd su fi ic ia ow ty u i j = false → wX_getMethod_302 post J83 J268 C n p st y (nI u) (nI i) (nI b) (nI c) (nI m) su fi ic ia ow im na pa ty fl sc (d + 1) (nI r) (nI (j + 1)) := fun z => ih (j + 1) r (by omega) hr (by rw [zs_knF z] at h; exact h)
    refine br_f (nI_ge (by omega) (by omega)) ?_
    by_cases h1 : j = i
    · exact br_t (by rw [h1]) (nm_r (nI_1 j) (sk (decide_eq_false (fun z => z.1 h1))))
    · refine br_f (fun w => h1 ((nI_eq (by omega) (by omega)).mp w)) ?_
      by_cases h2 : u.testBit j = false
      · exact br_t ((zs_xt u hu j (by omega)).mpr h2) (nm_r (nI_1 j) (sk (decide_eq_false (fun z => Bool.noConfusion (h2.symm.trans z.2.2.1)))))
      · refine br_f (fun w => h2 ((zs_xt u hu j (by omega)).mp w)) ⟨vp_in_nI (by omega) (by omega), vp_in_nI (by omega) (by omega), ?_⟩
        rw [nI_clamp (n := j) (by omega), nI_clamp (n := i) (by omega)]
        by_cases h3 : ty j = ty i
        · obtain ⟨a, ha, ea⟩ := how j (by omega)
          have H : wX_getMethod_302 post J83 J268 C n p st y (nI u) (nI i) (nI b) (nI c) (nI m) su fi ic ia ow im na pa ty fl sc (d + 1) (nI (if zs_bt su fi ic ia (nI a) (nI b) = 0 then r else r &&& (255 ^^^ 2 ^ i))) (nI (j + 1)) := by
            by_cases z : zs_bt su fi ic ia (nI a) (nI b) = 0
            · rw [if_pos z]
              exact sk (decide_eq_false (fun w => w.2.2.2.2 (by rw [ea, eb]; exact z)))
            · rw [if_neg z]
              rw [zs_knT (decide_eq_true ⟨h1, hb, ts_nf h2, h3, by rw [ea, eb]; exact z⟩)] at h
              exact ih (j + 1) _ (by omega) (Nat.lt_of_le_of_lt Nat.and_le_left hr) h
          refine br_t h3 ⟨vp_in_nI (by omega) (by omega), nm_r ea ⟨vp_in_nI (by omega) (by omega), ?_⟩⟩
          rw [nI_clamp (n := a) (by omega), nI_clamp (n := b) (by omega)]
          by_cases h4 : fi a = 0
          · refine br_t h4 ⟨vp_in_nI (by omega) (by omega), ?_⟩
            by_cases h5 : fi b = 0
            · exact br_t h5 (zs_X383 hc hic ha hbc (fun _ => h5) hr (by omega) H)
            · have q : zs_bt su fi ic ia (nI a) (nI b) = 1 := by
                unfold zs_bt
                rw [nI_clamp (n := a) (by omega), nI_clamp (n := b) (by omega), if_neg (fun w => h5 (w.symm.trans h4))]
                exact (hfi b).resolve_left h5
              rw [q] at H
              exact br_f h5 (zs_X416 hr (by omega) H)
          · exact br_f h4 (zs_X383 hc hic ha hbc (fun w => (hfi b).resolve_right (fun z => w (((hfi a).resolve_left h4).trans z.symm))) hr (by omega) H)
        · exact br_f h3 (nm_r (nI_1 j) (sk (decide_eq_false (fun z => h3 z.2.2.2.1))))
theorem zs_X268 {post : Int32 → SX → Prop} {J83 : Int32 → (Nat → Int32) → (Nat → Int32) → (Nat → Int32) → (Nat → Int32) → (Nat → Int32) → (Nat → Int32) → (Nat → Int32) → (Nat → Int32) → (Nat → Int32) → (Nat → Int32) → (Nat → Int32) → Prop} {C n p st : Int32} {x u : Nat} (hx : x < 6) (hc : c ≤ 6) (hm : m ≤ 8) (hic : ∀ x, zs_bl 3 (ic x)) (hfi : ∀ x, fi x = 0 ∨ fi x = 1) (how : ∀ i, i < m → zs_bl c (ow i)) (hu : u < 256) : ∀ d i r, i + d = m → r < 256 → J83 (nI (x + 1)) su fi ic ia ow im na pa ty fl (upd sc x (nI (zs_kt (zs_cd su fi ic ia ow ty u) m d i r))) → wX_getMethod_268 post J83 C n p st (nI x) (nI u) (nI c) (nI m) su fi ic ia ow im na pa ty fl sc (d + 1) (nI r) (nI i) := by
  intro d
  induction d with
  | zero =>
    intro i r hi hr h
    refine br_t (nI_le (by omega) (by omega)) ⟨vp_in_nI hx (by omega), ?_⟩
    rw [nI_clamp (n := x) (by omega)]
    exact nm_e (nm_r (nI_1 x) h)
  | succ d ih =>
    intro i r hi hr h
    rw [zs_ktS] at h
    refine br_f (nI_ge (by omega) (by omega)) ?_
    by_cases h2 : u.testBit i = false
    · have k0 : zs_kn (zs_cd su fi ic ia ow ty u i) i m 0 r = r := zs_kn0 (fun j => decide_eq_false (fun z => Bool.noConfusion (h2.symm.trans z.2.1))) m 0 r
      rw [k0] at h
      exact br_t ((zs_xt u hu i (by omega)).mpr h2) (nm_r (nI_1 i) (ih (i + 1) r (by omega) hr h))
    · obtain ⟨b, hb, eb⟩ := how i (by omega)
      refine br_f (fun w => h2 ((zs_xt u hu i (by omega)).mp w)) ⟨vp_in_nI (by omega) (by omega), ?_⟩
      rw [nI_clamp (n := i) (by omega)]
      exact nm_r eb ⟨m + 1, zs_X302 hc hm hic hfi how hu (by omega) (ts_nf h2) hb eb m 0 r (by omega) hr (ih (i + 1) _ (by omega) (Nat.lt_of_le_of_lt (zs_knL m 0 r) hr) h)⟩
/-- what is left of a type's set u -/
def zs_fin (su fi ic ia ow ty : Nat → Int32) (m u : Nat) : Nat := zs_kt (zs_cd su fi ic ia ow ty u) m m 0 u
theorem zs_mgS {S : Nat → Nat} {st x d k u : Nat} : zs_mg S ia st x (d + 1) k u = zs_mg S ia st x d (k + 1) (u ||| (S (ia (x * 2 + k)).toNatClampNeg &&& (255 ^^^ st))) := rfl
theorem zs_X221 {post : Int32 → SX → Prop} {J83 : Int32 → (Nat → Int32) → (Nat → Int32) → (Nat → Int32) → (Nat → Int32) → (Nat → Int32) → (Nat → Int32) → (Nat → Int32) → (Nat → Int32) → (Nat → Int32) → (Nat → Int32) → (Nat → Int32) → Prop} {C n p : Int32} {S : Nat → Nat} {st x K : Nat} (hx : x < 6) (hc : c ≤ 6) (hm : m ≤ 8) (hK : K ≤ 2) (hic : ∀ x, zs_bl 3 (ic x)) (hfi : ∀ x, fi x = 0 ∨ fi x = 1) (how : ∀ i, i < m → zs_bl c (ow i)) (hS : ∀ y, y < x → S y < 2 ^ m ∧ sc y = nI (S y)) (hia : ∀ k, k < K → zs_bl x (ia (x * 2 + k))) : ∀ d k u, k + d = K → u < 2 ^ m → J83 (nI (x + 1)) su fi ic ia ow im na pa ty fl (upd sc x (nI (zs_fin su fi ic ia ow ty m (zs_mg S ia st x d k u)))) → wX_getMethod_221 post J83 C n p (nI st) (nI x) (nI K) (nI c) (nI m) su fi ic ia ow im na pa ty fl sc (d + 1) (nI u) (nI k) := by
  intro d
  induction d with
  | zero =>
    intro k u hk hu h
    exact br_t (nI_le (by omega) (by omega)) ⟨m + 1, zs_X268 hx hc hm hic hfi how (zs_256 hm hu) m 0 u (by omega) (zs_256 hm hu) h⟩
  | succ d ih =>
    intro k u hk hu h
    obtain ⟨j, hj, e⟩ := hia k (by omega)
    rw [zs_mgS, e, nI_clamp (n := j) (by omega)] at h
    refine br_f (nI_ge (by omega) (by omega)) ?_
    rw [zs_ix x k, nI_clamp (n := x * 2 + k) (by omega), e, nI_clamp (n := j) (by omega), (hS j hj).2, zs_xn (zs_256 hm (hS j hj).1), zs_xo]
    exact ⟨vp_in_nI (by omega) (by omega), vp_in_nI (by omega) (by omega), nm_e (nm_r (nI_1 k) (ih (k + 1) _ (by omega) (Nat.or_lt_two_pow hu (Nat.lt_of_le_of_lt Nat.and_le_left (hS j hj).1)) h))⟩
theorem zs_X95 {post : Int32 → SX → Prop} {J83 : Int32 → (Nat → Int32) → (Nat → Int32) → (Nat → Int32) → (Nat → Int32) → (Nat → Int32) → (Nat → Int32) → (Nat → Int32) → (Nat → Int32) → (Nat → Int32) → (Nat → Int32) → (Nat → Int32) → Prop} {C n p : Int32} {S : Nat → Nat} {st x K : Nat} (hx : x < 6) (hc : c ≤ 6) (hm : m ≤ 8) (hK : K ≤ 2) (hik : ic x = nI K) (hic : ∀ x, zs_bl 3 (ic x)) (hfi : ∀ x, fi x = 0 ∨ fi x = 1) (him : ∀ i, im i = 0 ∨ im i = 1) (how : ∀ i, i < m → zs_bl c (ow i)) (hs : 0 < x → zs_bl x (su x)) (hS : ∀ y, y < x → S y < 2 ^ m ∧ sc y = nI (S y)) (hia : ∀ k, k < K → zs_bl x (ia (x * 2 + k))) (h : J83 (nI (x + 1)) su fi ic ia ow im na pa ty fl (upd sc x (nI (zs_fin su fi ic ia ow ty m (zs_mg S ia st x K 0 (zs_u1 S su fi x (zs_mk (zs_q ow im na pa fl (nI x) 1 n p 1) m))))))) : ∀ d i, i + d = m → wX_getMethod_95 post J83 C n p (nI st) (nI x) (nI c) (nI m) su fi ic ia ow im na pa ty fl sc (d + 1) (nI (zs_mk (zs_q ow im na pa fl (nI x) 1 n p 1) i)) (nI i) := by
  have hv : vp_in (nI x) 6 := vp_in_nI hx (by omega)
  intro d
  induction d with
  | zero =>
    intro i hi
    rw [show i = m from hi]
    have fin : ∀ u, u < 2 ^ m → J83 (nI (x + 1)) su fi ic ia ow im na pa ty fl (upd sc x (nI (zs_fin su fi ic ia ow ty m (zs_mg S ia st x K 0 u)))) → (vp_in (nI x) 6 ∧ (∀ y : Int32, y = ic x → (∃ n221 : Nat, wX_getMethod_221 post J83 C n p (nI st) (nI x) y (nI c) (nI m) su fi ic ia ow im na pa ty fl sc n221 (nI u) 0))) := fun u hu h => ⟨hv, nm_r hik ⟨K + 1, zs_X221 hx hc hm hK hic hfi how hS hia K 0 u (by omega) hu h⟩⟩
    refine br_t (nI_le (by omega) (by omega)) ?_
    rw [nI_clamp (n := x) (by omega)]
    unfold zs_u1 at h
    by_cases h2 : x = 0
    · rw [if_pos h2] at h
      exact br_t (by rw [h2]; rfl) (fin _ (zs_mkL _ _) h)
    · rw [if_neg h2] at h
      refine br_f (nI_ne0 (by omega) (by omega)) ⟨hv, ?_⟩
      by_cases h3 : fi x = 0
      · rw [if_pos h3] at h
        obtain ⟨j, hj, e⟩ := hs (by omega)
        rw [e, nI_clamp (n := j) (by omega)] at h
        rw [e, nI_clamp (n := j) (by omega), (hS j hj).2, zs_xo]
        exact br_t h3 ⟨hv, vp_in_nI (by omega) (by omega), nm_e (fin _ (Nat.or_lt_two_pow (zs_mkL _ _) (hS j hj).1) h)⟩
      · rw [if_neg h3] at h
        exact br_f h3 (fin _ (zs_mkL _ _) h)
  | succ d ih =>
    intro i hi
    have hv8 : vp_in (nI i) 8 := vp_in_nI (by omega) (by omega)
    have H := ih (i + 1) (by omega)
    have sk : zs_q ow im na pa fl (nI x) 1 n p 1 i = false → wX_getMethod_95 post J83 C n p (nI st) (nI x) (nI c) (nI m) su fi ic ia ow im na pa ty fl sc (d + 1) (nI (zs_mk (zs_q ow im na pa fl (nI x) 1 n p 1) i)) (nI (i + 1)) := fun z => by rw [zs_mkF z] at H; exact H
    refine br_f (nI_ge (by omega) (by omega)) ⟨hv8, ?_⟩
    rw [nI_clamp (n := i) (by omega)]
    by_cases h1 : im i = 0
    · exact br_t h1 (nm_r (nI_1 i) (sk (decide_eq_false (fun z => absurd (h1.symm.trans z.1) (by decide)))))
    · refine br_f h1 ⟨hv8, ?_⟩
      by_cases h2 : ow i = nI x
      · refine br_t h2 ⟨hv8, ?_⟩
        by_cases h3 : na i = n
        · refine br_t h3 ⟨hv8, ?_⟩
          by_cases h4 : pa i = p
          · refine br_t h4 ⟨hv8, ?_⟩
            by_cases h5 : (fl i &&& 1) = 0
            · exact br_t h5 (nm_r (nI_1 i) (sk (decide_eq_false (fun z => z.2.2.2.2.elim (by decide) (fun w => w h5)))))
            · rw [zs_mkT (decide_eq_true ⟨(him i).resolve_left h1, h2, h3, h4, Or.inr h5⟩)] at H
              exact br_f h5 (nm_r (zs_xs _ (zs_mk8 (by omega)) i (by omega)) (nm_r (nI_1 i) H))
          · exact br_f h4 (nm_r (nI_1 i) (sk (decide_eq_false (fun z => h4 z.2.2.2.1))))
        · exact br_f h3 (nm_r (nI_1 i) (sk (decide_eq_false (fun z => h3 z.2.2.1))))
      · exact br_f h2 (nm_r (nI_1 i) (sk (decide_eq_false (fun z => h2 z.2.1))))
/-- X's declared methods -/
theorem zs_Xdm {post : Int32 → Prop} {o n p : Int32} (hm : m ≤ 8) (him : ∀ i, im i = 0 ∨ im i = 1) (h : wpX_pick (fun r => post r) (nI c, nI m, su, fi, ic, ia, ow, im, na, pa, ty, fl, sc) (nI (zs_mk (zs_q ow im na pa fl o 1 n p 0) m))) : ∀ d i, i + d = m → wX_getDeclaredMethod_43 post o n p (nI c) (nI m) su fi ic ia ow im na pa ty fl sc (d + 1) (nI (zs_mk (zs_q ow im na pa fl o 1 n p 0) i)) (nI i) := by
  intro d
  induction d with
  | zero =>
    intro i hi
    rw [show i = m from hi]
    exact br_t (nI_le (by omega) (by omega)) h
  | succ d ih =>
    intro i hi
    have hv8 : vp_in (nI i) 8 := vp_in_nI (by omega) (by omega)
    have H := ih (i + 1) (by omega)
    have sk : zs_q ow im na pa fl o 1 n p 0 i = false → wX_getDeclaredMethod_43 post o n p (nI c) (nI m) su fi ic ia ow im na pa ty fl sc (d + 1) (nI (zs_mk (zs_q ow im na pa fl o 1 n p 0) i)) (nI (i + 1)) := fun z => by rw [zs_mkF z] at H; exact H
    refine br_f (nI_ge (by omega) (by omega)) ⟨hv8, ?_⟩
    rw [nI_clamp (n := i) (by omega)]
    by_cases h1 : im i = 0
    · exact br_t h1 (nm_r (nI_1 i) (sk (decide_eq_false (fun z => absurd (h1.symm.trans z.1) (by decide)))))
    · refine br_f h1 ⟨hv8, ?_⟩
      by_cases h2 : ow i = o
      · refine br_t h2 ⟨hv8, ?_⟩
        by_cases h3 : na i = n
        · refine br_t h3 ⟨hv8, ?_⟩
          by_cases h4 : pa i = p
          · rw [zs_mkT (decide_eq_true ⟨(him i).resolve_left h1, h2, h3, h4, Or.inl rfl⟩)] at H
            exact br_t h4 (nm_r (zs_xs _ (zs_mk8 (by omega)) i (by omega)) (nm_r (nI_1 i) H))
          · exact br_f h4 (nm_r (nI_1 i) (sk (decide_eq_false (fun z => h4 z.2.2.2.1))))
        · exact br_f h3 (nm_r (nI_1 i) (sk (decide_eq_false (fun z => h3 z.2.2.1))))
      · exact br_f h2 (nm_r (nI_1 i) (sk (decide_eq_false (fun z => h2 z.2.1))))
end
end
section
/-! the methods' walks: Y, then both in lockstep, then the choice -/
section
variable {c m : Nat} {su fi ic ia ow im na pa ty fl sc fd : Nat → Int32} {se : Nat → Int64}
def zs_g (fl : Nat → Int32) (r j : Nat) : Bool := r.testBit j && !(zs_st fl j)
theorem zs_Y163 {post : Int64 → SY → Prop} {J3 : Int32 → (Nat → Int32) → (Nat → Int32) → (Nat → Int32) → (Nat → Int32) → (Nat → Int32) → (Nat → Int32) → (Nat → Int32) → (Nat → Int32) → (Nat → Int32) → (Nat → Int32) → (Nat → Int32) → (Nat → Int64) → Prop} {J151 : Int64 → Int32 → Prop} {C n p y : Int32} {u i b : Nat} (hc : c ≤ 6) (hm : m ≤ 8) (hic : ∀ x, zs_bl 3 (ic x)) (hfi : ∀ x, fi x = 0 ∨ fi x = 1) (how : ∀ i, i < m → zs_bl c (ow i)) (hu : u < 256) (hi : i < m) (hbc : b < c) (eb : ow i = nI b) : ∀ d j r, j + d = m → r < 256 → J151 (lN (zs_kn (zs_cd su fi ic ia ow ty u i) i d j r)) (nI (i + 1)) → wY_selected_163 post J3 J151 C n p y (lN u) (nI i) (nI c) (nI m) su fi ic ia ow im na pa ty fl fd se (d + 1) (lN r) (nI j) := by
  intro d
  induction d with
  | zero =>
    intro j r hj hr h
    exact br_t (nI_le (by omega) (by omega)) (nm_r (nI_1 i) h)
  | succ d ih =>
    intro j r hj hr h
    have hvi : vp_in (nI i) 8 := vp_in_nI (by omega) (by omega)
    have hvj : vp_in (nI j) 8 := vp_in_nI (by omega) (by omega)
    have sk : zs_cd su fi ic ia ow ty u i j = false → wY_selected_163 post J3 J151 C n p y (lN u) (nI i) (nI c) (nI m) su fi ic ia ow im na pa ty fl fd se (d + 1) (lN r) (nI (j + 1)) := fun z => ih (j + 1) r (by omega) hr (by rw [zs_knF z] at h; exact h)
    refine br_f (nI_ge (by omega) (by omega)) ?_
    by_cases h1 : j = i
    · exact br_t (by rw [h1]) (nm_r (nI_1 j) (sk (decide_eq_false (fun z => z.1 h1))))
    · refine br_f (fun w => h1 ((nI_eq (by omega) (by omega)).mp w)) (zs_Yin hu (by omega) ?_ ?_)
      · intro h2
        exact br_t rfl (nm_r (nI_1 j) (sk (decide_eq_false (fun z => Bool.noConfusion (h2.symm.trans z.2.1)))))
      · intro h2
        refine br_f (by decide) (zs_Yin hu (by omega) ?_ ?_)
        · intro h3
          exact br_t rfl (nm_r (nI_1 j) (sk (decide_eq_false (fun z => Bool.noConfusion (h3.symm.trans z.2.2.1)))))
        · intro h3
          refine br_f (by decide) ⟨hvj, hvi, ?_⟩
          rw [nI_clamp (n := j) (by omega), nI_clamp (n := i) (by omega)]
          by_cases h4 : ty j = ty i
          · obtain ⟨a, ha, ea⟩ := how j (by omega)
            refine br_t h4 ⟨hvj, hvi, ?_⟩
            rw [ea, eb]
            refine zs_Ybeats hc hic hfi ha hbc ?_
            by_cases z : zs_bt su fi ic ia (nI a) (nI b) = 0
            · exact br_t z (nm_r (nI_1 j) (sk (decide_eq_false (fun w => w.2.2.2.2 (by rw [ea, eb]; exact z)))))
            · rw [zs_knT (decide_eq_true ⟨h1, h2, h3, h4, by rw [ea, eb]; exact z⟩)] at h
              exact br_f z (nm_r (zs_yc r hr i (by omega)) (nm_r (nI_1 j) (ih (j + 1) _ (by omega) (Nat.lt_of_le_of_lt Nat.and_le_left hr) h)))
          · exact br_f h4 (nm_r (nI_1 j) (sk (decide_eq_false (fun z => h4 z.2.2.2.1))))
theorem zs_Y151 {post : Int64 → SY → Prop} {J3 : Int32 → (Nat → Int32) → (Nat → Int32) → (Nat → Int32) → (Nat → Int32) → (Nat → Int32) → (Nat → Int32) → (Nat → Int32) → (Nat → Int32) → (Nat → Int32) → (Nat → Int32) → (Nat → Int32) → (Nat → Int64) → Prop} {C n p : Int32} {x u : Nat} (hx : x < 6) (hc : c ≤ 6) (hm : m ≤ 8) (hic : ∀ x, zs_bl 3 (ic x)) (hfi : ∀ x, fi x = 0 ∨ fi x = 1) (how : ∀ i, i < m → zs_bl c (ow i)) (hu : u < 256) : ∀ d i r, i + d = m → r < 256 → J3 (nI (x + 1)) su fi ic ia ow im na pa ty fl fd (vp_updL se x (lN (zs_kt (zs_cd su fi ic ia ow ty u) m d i r))) → wY_selected_151 post J3 C n p (nI x) (lN u) (nI c) (nI m) su fi ic ia ow im na pa ty fl fd se (d + 1) (lN r) (nI i) := by
  intro d
  induction d with
  | zero =>
    intro i r hi hr h
    refine br_t (nI_le (by omega) (by omega)) ⟨vp_in_nI hx (by omega), ?_⟩
    rw [nI_clamp (n := x) (by omega)]
    exact nm_e (nm_r (nI_1 x) h)
  | succ d ih =>
    intro i r hi hr h
    rw [zs_ktS] at h
    obtain ⟨b, hb, eb⟩ := how i (by omega)
    exact br_f (nI_ge (by omega) (by omega)) ⟨m + 1, zs_Y163 hc hm hic hfi how hu (by omega) hb eb m 0 r (by omega) hr (ih (i + 1) _ (by omega) (Nat.lt_of_le_of_lt (zs_knL m 0 r) hr) h)⟩
theorem zs_Y90 {post : Int64 → SY → Prop} {J3 : Int32 → (Nat → Int32) → (Nat → Int32) → (Nat → Int32) → (Nat → Int32) → (Nat → Int32) → (Nat → Int32) → (Nat → Int32) → (Nat → Int32) → (Nat → Int32) → (Nat → Int32) → (Nat → Int32) → (Nat → Int64) → Prop} {J56 : Int64 → Int32 → Prop} {C n p y : Int32} {k r u : Nat} (hm : m ≤ 8) (hr : r < 256) (hu : u < 256) (h : J56 (lN (u ||| zs_mk (zs_g fl r) m)) (nI (k + 1))) : ∀ d j, j + d = m → wY_selected_90 post J3 J56 C n p y (nI k) (lN r) (nI c) (nI m) su fi ic ia ow im na pa ty fl fd se (d + 1) (lN (u ||| zs_mk (zs_g fl r) j)) (nI j) := by
  intro d
  induction d with
  | zero =>
    intro j hj
    rw [show j = m from hj]
    exact br_t (nI_le (by omega) (by omega)) (nm_r (nI_1 k) h)
  | succ d ih =>
    intro j hj
    have H := ih (j + 1) (by omega)
    refine br_f (nI_ge (by omega) (by omega)) (zs_Yin hr (by omega) ?_ ?_)
    · intro z
      rw [zs_mkF (show zs_g fl r j = false by unfold zs_g; rw [z]; rfl)] at H
      exact br_t rfl (nm_r (nI_1 j) H)
    · intro z
      refine br_f (by decide) ⟨vp_in_nI (by omega) (by omega), ?_⟩
      rw [nI_clamp (n := j) (by omega)]
      by_cases h1 : (fl j &&& 8) = 0
      · have w : zs_st fl j = false := decide_eq_false (fun q => q h1)
        rw [zs_mkT (show zs_g fl r j = true by unfold zs_g; rw [z, w]; rfl), ← Nat.or_assoc] at H
        exact br_t h1 (nm_r (zs_ys _ (Nat.or_lt_two_pow (n := 8) hu (zs_mk8 (by omega))) j (by omega)) (nm_r (nI_1 j) H))
      · have w : zs_st fl j = true := decide_eq_true h1
        rw [zs_mkF (show zs_g fl r j = false by unfold zs_g; rw [z, w]; rfl)] at H
        exact br_f h1 (nm_r (nI_1 j) H)
theorem zs_Y56 {post : Int64 → SY → Prop} {J3 : Int32 → (Nat → Int32) → (Nat → Int32) → (Nat → Int32) → (Nat → Int32) → (Nat → Int32) → (Nat → Int32) → (Nat → Int32) → (Nat → Int32) → (Nat → Int32) → (Nat → Int32) → (Nat → Int32) → (Nat → Int64) → Prop} {C n p : Int32} {S : Nat → Nat} {x K : Nat} (hx : x < 6) (hc : c ≤ 6) (hm : m ≤ 8) (hK : K ≤ 2) (hik : ic x = nI K) (hic : ∀ x, zs_bl 3 (ic x)) (hfi : ∀ x, fi x = 0 ∨ fi x = 1) (how : ∀ i, i < m → zs_bl c (ow i)) (hS : ∀ y, y < x → S y < 2 ^ m ∧ se y = lN (S y)) (hia : ∀ k, k < K → zs_bl x (ia (x * 2 + k))) : ∀ d k u, k + d = K → u < 2 ^ m → J3 (nI (x + 1)) su fi ic ia ow im na pa ty fl fd (vp_updL se x (lN (zs_fin su fi ic ia ow ty m (zs_mg S ia (zs_mk (zs_st fl) m) x d k u)))) → wY_selected_56 post J3 C n p (nI x) (nI c) (nI m) su fi ic ia ow im na pa ty fl fd se (d + 1) (lN u) (nI k) := by
  have hv : vp_in (nI x) 6 := vp_in_nI hx (by omega)
  intro d
  induction d with
  | zero =>
    intro k u hk hu h
    refine And.intro hv ?_
    rw [nI_clamp (n := x) (by omega), hik]
    exact br_t (nI_le (by omega) (by omega)) ⟨m + 1, zs_Y151 hx hc hm hic hfi how (zs_256 hm hu) m 0 u (by omega) (zs_256 hm hu) h⟩
  | succ d ih =>
    intro k u hk hu h
    obtain ⟨j, hj, e⟩ := hia k (by omega)
    have g : S j &&& (255 ^^^ zs_mk (zs_st fl) m) = zs_mk (zs_g fl (S j)) m := zs_mrg hm (hS j hj).1 (zs_st fl)
    rw [zs_mgS, e, nI_clamp (n := j) (by omega), g] at h
    refine And.intro hv ?_
    rw [nI_clamp (n := x) (by omega), hik]
    refine br_f (nI_ge (by omega) (by omega)) ?_
    rw [zs_ix x k, nI_clamp (n := x * 2 + k) (by omega), e, nI_clamp (n := j) (by omega)]
    refine ⟨vp_in_nI (by omega) (by omega), vp_in_nI (by omega) (by omega), nm_r (hS j hj).2 ⟨m + 1, ?_⟩⟩
    have H := zs_Y90 (post := post) (J3 := J3) (C := C) (n := n) (p := p) (y := nI x) (k := k) (c := c) (su := su) (fi := fi) (ic := ic) (ia := ia) (ow := ow) (im := im) (na := na) (pa := pa) (ty := ty) (fd := fd) (se := se) hm (zs_256 hm (hS j hj).1) (zs_256 hm hu) (ih (k + 1) _ (by omega) (Nat.or_lt_two_pow hu (zs_mkL _ _)) h) m 0 (by omega)
    rw [show u ||| zs_mk (zs_g fl (S j)) 0 = u from Nat.or_zero u] at H
    exact H
theorem zs_mgL {S : Nat → Nat} {st x K : Nat} (hx : x < 6) (hS : ∀ y, y < x → S y < 2 ^ m) (hia : ∀ k, k < K → zs_bl x (ia (x * 2 + k))) : ∀ d k u, k + d = K → u < 2 ^ m → zs_mg S ia st x d k u < 2 ^ m := by
  intro d
  induction d with
  | zero => intro k u _ hu; exact hu
  | succ d ih =>
    intro k u hk hu
    obtain ⟨j, hj, e⟩ := hia k (by omega)
    rw [zs_mgS, e, nI_clamp (n := j) (by omega)]
    exact ih (k + 1) _ (by omega) (Nat.or_lt_two_pow hu (Nat.lt_of_le_of_lt Nat.and_le_left (hS j hj)))
theorem zs_u1L {S : Nat → Nat} {x u : Nat} (hx : x < 6) (hS : ∀ y, y < x → S y < 2 ^ m) (hs : 0 < x → zs_bl x (su x)) (hu : u < 2 ^ m) : zs_u1 S su fi x u < 2 ^ m := by
  unfold zs_u1
  by_cases h2 : x = 0
  · rw [if_pos h2]; exact hu
  · rw [if_neg h2]
    by_cases h3 : fi x = 0
    · obtain ⟨j, hj, e⟩ := hs (by omega)
      rw [if_pos h3, e, nI_clamp (n := j) (by omega)]
      exact Nat.or_lt_two_pow hu (hS j hj)
    · rw [if_neg h3]; exact hu
/-- Y's pass at type x -/
theorem zs_Y3s {post : Int64 → SY → Prop} {J3 : Int32 → (Nat → Int32) → (Nat → Int32) → (Nat → Int32) → (Nat → Int32) → (Nat → Int32) → (Nat → Int32) → (Nat → Int32) → (Nat → Int32) → (Nat → Int32) → (Nat → Int32) → (Nat → Int32) → (Nat → Int64) → Prop} {C n p : Int32} {S : Nat → Nat} {x K : Nat} (hx : x < 6) (hc : c ≤ 6) (hm : m ≤ 8) (hK : K ≤ 2) (hik : ic x = nI K) (hic : ∀ x, zs_bl 3 (ic x)) (hfi : ∀ x, fi x = 0 ∨ fi x = 1) (how : ∀ i, i < m → zs_bl c (ow i)) (hs : 0 < x → zs_bl x (su x)) (hS : ∀ y, y < x → S y < 2 ^ m ∧ se y = lN (S y)) (hia : ∀ k, k < K → zs_bl x (ia (x * 2 + k))) {u : Nat} (hu : u < 2 ^ m) (h : J3 (nI (x + 1)) su fi ic ia ow im na pa ty fl fd (vp_updL se x (lN (zs_fin su fi ic ia ow ty m (zs_mg S ia (zs_mk (zs_st fl) m) x K 0 (zs_u1 S su fi x u)))))) : ((nI x = 0 → (∃ n56 : Nat, wY_selected_56 post J3 C n p (nI x) (nI c) (nI m) su fi ic ia ow im na pa ty fl fd se n56 (lN u) 0)) ∧ (¬ nI x = 0 → (vp_in (nI x) 6 ∧ ((((fi (nI x).toNatClampNeg) = 0 → (vp_in (nI x) 6 ∧ (vp_in (su (nI x).toNatClampNeg) 6 ∧ (∀ v : Int64, v = lN u ||| (se (su (nI x).toNatClampNeg).toNatClampNeg) → (∃ n56 : Nat, wY_selected_56 post J3 C n p (nI x) (nI c) (nI m) su fi ic ia ow im na pa ty fl fd se n56 v 0))))) ∧ (¬ (fi (nI x).toNatClampNeg) = 0 → (∃ n56 : Nat, wY_selected_56 post J3 C n p (nI x) (nI c) (nI m) su fi ic ia ow im na pa ty fl fd se n56 (lN u) 0))))))) := by
  have hv : vp_in (nI x) 6 := vp_in_nI hx (by omega)
  rw [nI_clamp (n := x) (by omega)]
  unfold zs_u1 at h
  by_cases h2 : x = 0
  · rw [if_pos h2] at h
    exact br_t (by rw [h2]; rfl) ⟨K + 1, zs_Y56 hx hc hm hK hik hic hfi how hS hia K 0 u (by omega) hu h⟩
  · rw [if_neg h2] at h
    refine br_f (nI_ne0 (by omega) (by omega)) ⟨hv, ?_⟩
    by_cases h3 : fi x = 0
    · rw [if_pos h3] at h
      obtain ⟨j, hj, e⟩ := hs (by omega)
      rw [e, nI_clamp (n := j) (by omega)] at h
      rw [e, nI_clamp (n := j) (by omega)]
      exact br_t h3 ⟨hv, vp_in_nI (by omega) (by omega), nm_r (by rw [(hS j hj).2]; exact zs_yo (zs_256 hm hu) (zs_256 hm (hS j hj).1)) ⟨K + 1, zs_Y56 hx hc hm hK hik hic hfi how hS hia K 0 _ (by omega) (Nat.or_lt_two_pow hu (hS j hj).1) h⟩⟩
    · rw [if_neg h3] at h
      exact br_f h3 ⟨K + 1, zs_Y56 hx hc hm hK hik hic hfi how hS hia K 0 u (by omega) hu h⟩
/-- both outer loops, in lockstep -/
theorem zs_gm {n p : Int32} {C : Nat} (hc : c ≤ 6) (hm : m ≤ 8) (hC : C < c) (hsu : ∀ x, x < c → 0 < x → zs_bl x (su x)) (hic : ∀ x, zs_bl 3 (ic x)) (hfi : ∀ x, fi x = 0 ∨ fi x = 1) (him : ∀ i, im i = 0 ∨ im i = 1) (how : ∀ i, i < m → zs_bl c (ow i)) (hia : ∀ x k, x < c → k < (ic x).toNatClampNeg → zs_bl x (ia (x * 2 + k))) : ∀ (d x : Nat) (S : Nat → Nat) (sc : Nat → Int32) (se : Nat → Int64), x + d = C + 1 → (∀ y, y < x → S y < 2 ^ m) → (∀ y, y < x → sc y = nI (S y)) → (∀ y, y < x → se y = lN (S y)) → ∃ (s : Nat) (sc' : Nat → Int32) (se' : Nat → Int64), s < 2 ^ m ∧ (∀ post : Int32 → SX → Prop, wpX_pick (fun r => post r (nI c, nI m, su, fi, ic, ia, ow, im, na, pa, ty, fl, sc')) (nI c, nI m, su, fi, ic, ia, ow, im, na, pa, ty, fl, sc') (nI s) → wX_getMethod_83 post (nI C) n p (nI (zs_mk (zs_st fl) m)) (nI c) (nI m) (d + 1) (nI x) su fi ic ia ow im na pa ty fl sc) ∧ (∀ post : Int64 → SY → Prop, post (lN s) (nI c, nI m, su, fi, ic, ia, ow, im, na, pa, ty, fl, fd, se') → wY_selected_3 post (nI C) n p (nI c) (nI m) (d + 1) (nI x) su fi ic ia ow im na pa ty fl fd se) := by
  intro d
  induction d with
  | zero =>
    intro x S sc se hx hL hA hB
    refine ⟨S C, sc, se, hL C (by omega), fun post h => br_t (nI_lt (by omega) (by omega)) ⟨vp_in_nI (by omega) (by omega), ?_⟩, fun post h => br_t (nI_lt (by omega) (by omega)) ⟨vp_in_nI (by omega) (by omega), ?_⟩⟩
    · rw [nI_clamp (n := C) (by omega), hA C (by omega)]; exact h
    · rw [nI_clamp (n := C) (by omega), hB C (by omega)]; exact h
  | succ d ih =>
    intro x S sc se hx hL hA hB
    obtain ⟨K, hK, e⟩ := hic x
    have hs := hsu x (by omega)
    have hi : ∀ k, k < K → zs_bl x (ia (x * 2 + k)) := fun k hk => hia x k (by omega) (by rw [e, nI_clamp (n := K) (by omega)]; exact hk)
    have hv : zs_fin su fi ic ia ow ty m (zs_mg S ia (zs_mk (zs_st fl) m) x K 0 (zs_u1 S su fi x (zs_mk (zs_q ow im na pa fl (nI x) 1 n p 1) m))) < 2 ^ m := Nat.lt_of_le_of_lt (zs_ktL m 0 _) (zs_mgL (by omega) hL hi K 0 _ (by omega) (zs_u1L (by omega) hL hs (zs_mkL _ _)))
    obtain ⟨V, eV⟩ : ∃ V, V = zs_fin su fi ic ia ow ty m (zs_mg S ia (zs_mk (zs_st fl) m) x K 0 (zs_u1 S su fi x (zs_mk (zs_q ow im na pa fl (nI x) 1 n p 1) m))) := ⟨_, rfl⟩
    rw [← eV] at hv
    obtain ⟨s, sc', se', hs', kX, kY⟩ := ih (x + 1) (fun y => if y = x then V else S y) (upd sc x (nI V)) (vp_updL se x (lN V)) (by omega) (by
      intro y hy
      by_cases z : y = x
      · show (if y = x then V else S y) < _
        rw [if_pos z]; exact hv
      · show (if y = x then V else S y) < _
        rw [if_neg z]; exact hL y (by omega)) (by
      intro y hy
      by_cases z : y = x
      · show upd sc x (nI V) y = nI (if y = x then V else S y)
        rw [if_pos z, z, pk_us]
      · show upd sc x (nI V) y = nI (if y = x then V else S y)
        rw [if_neg z, pk_un z]; exact hA y (by omega)) (by
      intro y hy
      by_cases z : y = x
      · show vp_updL se x (lN V) y = lN (if y = x then V else S y)
        rw [if_pos z, z, pk_uLs]
      · show vp_updL se x (lN V) y = lN (if y = x then V else S y)
        rw [if_neg z, pk_uLn z]; exact hB y (by omega))
    rw [eV] at kX kY
    refine ⟨s, sc', se', hs', fun post h => br_f (nI_nlt (by omega) (by omega)) ⟨m + 1, ?_⟩, fun post h => br_f (nI_nlt (by omega) (by omega)) ?_⟩
    · exact zs_X95 (by omega) hc hm (by omega) e hic hfi him how hs (fun y hy => ⟨hL y hy, hA y hy⟩) hi (kX post h) m 0 (by omega)
    · exact zs_Ydecl hm (zs_Y3s (by omega) hc hm (by omega) e hic hfi how hs (fun y hy => ⟨hL y hy, hB y hy⟩) hi (zs_mkL _ _) (kY post h))
/-! the choice -/
theorem zs_Xp26 {post J : Int32 → Prop} {s i : Nat} (hc : c ≤ 6) (hm : m ≤ 8) (hic : ∀ x, zs_bl 3 (ic x)) (hty : ∀ i, i < m → zs_ok c (ty i)) (hs : s < 256) (hi : i < m) : ∀ (d j : Nat) (a : Int32), j + d = m → (zs_an (zs_pq su ic ia ty s i) d j a = 0 → J (nI (i + 1))) → (¬ zs_an (zs_pq su ic ia ty s i) d j a = 0 → post (nI i)) → wX_pick_26 post J (nI s) (nI i) (nI c) (nI m) su fi ic ia ow im na pa ty fl sc (d + 1) a (nI j) := by
  intro d
  induction d with
  | zero =>
    intro j a hj h0 h1
    exact br_t (nI_le (by omega) (by omega)) (br_c (fun z => nm_r (nI_1 i) (h0 z)) h1)
  | succ d ih =>
    intro j a hj h0 h1
    have hvi : vp_in (nI i) 8 := vp_in_nI (by omega) (by omega)
    have hvj : vp_in (nI j) 8 := vp_in_nI (by omega) (by omega)
    have sk : zs_pq su ic ia ty s i j = false → wX_pick_26 post J (nI s) (nI i) (nI c) (nI m) su fi ic ia ow im na pa ty fl sc (d + 1) a (nI (j + 1)) := fun z => ih (j + 1) a (by omega) (fun w => h0 ((zs_anF z).trans w)) (fun w => h1 (fun q => w ((zs_anF z).symm.trans q)))
    refine br_f (nI_ge (by omega) (by omega)) ?_
    by_cases h2 : s.testBit j = false
    · exact br_t ((zs_xt s hs j (by omega)).mpr h2) (nm_r (nI_1 j) (sk (decide_eq_false (fun z => Bool.noConfusion (h2.symm.trans z.1)))))
    · refine br_f (fun w => h2 ((zs_xt s hs j (by omega)).mp w)) ⟨hvj, hvi, ?_⟩
      rw [nI_clamp (n := j) (by omega), nI_clamp (n := i) (by omega)]
      by_cases h3 : ty j = ty i
      · exact br_t h3 (nm_r (nI_1 j) (sk (decide_eq_false (fun z => z.2.1 h3))))
      · refine br_f h3 ⟨hvj, hvi, zs_Xsub hc hic (hty j (by omega)) (hty i hi) ?_⟩
        by_cases h4 : zs_sub su ic ia (ty j) (ty i) = 0
        · exact br_t h4 (nm_r (nI_1 j) (sk (decide_eq_false (fun z => z.2.2 h4))))
        · have z : zs_pq su ic ia ty s i j = true := decide_eq_true ⟨ts_nf h2, h3, h4⟩
          exact br_f h4 (nm_r (nI_1 j) (ih (j + 1) 0 (by omega) (fun w => h0 ((zs_anT z).trans w)) (fun w => h1 (fun q => w ((zs_anT z).symm.trans q)))))
theorem zs_Yp21 {post J : Int32 → Prop} {s i : Nat} (hc : c ≤ 6) (hm : m ≤ 8) (hic : ∀ x, zs_bl 3 (ic x)) (hty : ∀ i, i < m → zs_ok c (ty i)) (hs : s < 256) (hi : i < m) : ∀ (d j : Nat) (a : Int32), j + d = m → (zs_an (zs_pq su ic ia ty s i) d j a = 0 → J (nI (i + 1))) → (¬ zs_an (zs_pq su ic ia ty s i) d j a = 0 → post (nI i)) → wY_pick_21 post J (lN s) (nI i) (nI c) (nI m) su fi ic ia ow im na pa ty fl fd se (d + 1) a (nI j) := by
  intro d
  induction d with
  | zero =>
    intro j a hj h0 h1
    exact br_t (nI_le (by omega) (by omega)) (br_c (fun z => nm_r (nI_1 i) (h0 z)) h1)
  | succ d ih =>
    intro j a hj h0 h1
    have hvi : vp_in (nI i) 8 := vp_in_nI (by omega) (by omega)
    have hvj : vp_in (nI j) 8 := vp_in_nI (by omega) (by omega)
    have sk : zs_pq su ic ia ty s i j = false → wY_pick_21 post J (lN s) (nI i) (nI c) (nI m) su fi ic ia ow im na pa ty fl fd se (d + 1) a (nI (j + 1)) := fun z => ih (j + 1) a (by omega) (fun w => h0 ((zs_anF z).trans w)) (fun w => h1 (fun q => w ((zs_anF z).symm.trans q)))
    refine br_f (nI_ge (by omega) (by omega)) (zs_Yin hs (by omega) ?_ ?_)
    · intro h2
      exact br_t rfl (nm_r (nI_1 j) (sk (decide_eq_false (fun z => Bool.noConfusion (h2.symm.trans z.1)))))
    · intro h2
      refine br_f (by decide) ⟨hvj, hvi, ?_⟩
      rw [nI_clamp (n := j) (by omega), nI_clamp (n := i) (by omega)]
      by_cases h3 : ty j = ty i
      · exact br_t h3 (nm_r (nI_1 j) (sk (decide_eq_false (fun z => z.2.1 h3))))
      · refine br_f h3 ⟨hvj, hvi, zs_Ysub hc hic (hty j (by omega)) (hty i hi) ?_⟩
        by_cases h4 : zs_sub su ic ia (ty j) (ty i) = 0
        · exact br_t h4 (nm_r (nI_1 j) (sk (decide_eq_false (fun z => z.2.2 h4))))
        · have z : zs_pq su ic ia ty s i j = true := decide_eq_true ⟨h2, h3, h4⟩
          exact br_f h4 (nm_r (nI_1 j) (ih (j + 1) 0 (by omega) (fun w => h0 ((zs_anT z).trans w)) (fun w => h1 (fun q => w ((zs_anT z).symm.trans q)))))
theorem zs_Xpick {post : Int32 → Prop} {s : Nat} (hc : c ≤ 6) (hm : m ≤ 8) (hic : ∀ x, zs_bl 3 (ic x)) (hty : ∀ i, i < m → zs_ok c (ty i)) (hs : s < 256) (h : post (zs_pk su ic ia ty m s m 0)) : wpX_pick post (nI c, nI m, su, fi, ic, ia, ow, im, na, pa, ty, fl, sc) (nI s) := by
  have key : ∀ d i, i + d = m → post (zs_pk su ic ia ty m s d i) → wX_pick_2 post (nI s) (nI c) (nI m) su fi ic ia ow im na pa ty fl sc (d + 1) (nI i) := by
    intro d
    induction d with
    | zero => intro i hi h; exact br_t (nI_le (by omega) (by omega)) h
    | succ d ih =>
      intro i hi h
      refine br_f (nI_ge (by omega) (by omega)) ?_
      by_cases h2 : s.testBit i = false
      · rw [zs_pkF (fun z => Bool.noConfusion (h2.symm.trans z.1))] at h
        exact br_t ((zs_xt s hs i (by omega)).mpr h2) (nm_r (nI_1 i) (ih (i + 1) (by omega) h))
      · refine br_f (fun w => h2 ((zs_xt s hs i (by omega)).mp w)) ⟨m + 1, zs_Xp26 hc hm hic hty hs (by omega) m 0 1 (by omega) ?_ ?_⟩
        · intro z
          rw [zs_pkF (fun w => w.2 z)] at h
          exact ih (i + 1) (by omega) h
        · intro z
          rw [zs_pkT ⟨ts_nf h2, z⟩] at h
          exact h
  exact ⟨m + 1, key m 0 (by omega) h⟩
theorem zs_Ypick {post : Int32 → Prop} {s : Nat} (hc : c ≤ 6) (hm : m ≤ 8) (hic : ∀ x, zs_bl 3 (ic x)) (hty : ∀ i, i < m → zs_ok c (ty i)) (hs : s < 256) (h : post (zs_pk su ic ia ty m s m 0)) : wpY_pick post (nI c, nI m, su, fi, ic, ia, ow, im, na, pa, ty, fl, fd, se) (lN s) := by
  have key : ∀ d i, i + d = m → post (zs_pk su ic ia ty m s d i) → wY_pick_2 post (lN s) (nI c) (nI m) su fi ic ia ow im na pa ty fl fd se (d + 1) (nI i) := by
    intro d
    induction d with
    | zero => intro i hi h; exact br_t (nI_le (by omega) (by omega)) h
    | succ d ih =>
      intro i hi h
      refine br_f (nI_ge (by omega) (by omega)) (zs_Yin hs (by omega) ?_ ?_)
      · intro h2
        rw [zs_pkF (fun z => Bool.noConfusion (h2.symm.trans z.1))] at h
        refine ⟨m + 1, zs_Yp21 hc hm hic hty hs (by omega) m 0 0 (by omega) (fun _ => ih (i + 1) (by omega) h) (fun z => absurd (zs_an0 m 0) z)⟩
      · intro h2
        refine ⟨m + 1, zs_Yp21 hc hm hic hty hs (by omega) m 0 1 (by omega) ?_ ?_⟩
        · intro z
          rw [zs_pkF (fun w => w.2 z)] at h
          exact ih (i + 1) (by omega) h
        · intro z
          rw [zs_pkT ⟨h2, z⟩] at h
          exact h
  exact ⟨m + 1, key m 0 (by omega) h⟩
end
end
section
/-! the relation: both sides keep the same tables; what the tables hold -/
def zs_Inv (c m : Nat) (su fi ic ia ow im pa ty : Nat → Int32) : Prop :=
  (1 ≤ c ∧ c ≤ 6 ∧ m ≤ 8) ∧
  (∀ x, x < c → 0 < x → zs_bl x (su x)) ∧
  (∀ x, fi x = 0 ∨ fi x = 1) ∧
  (∀ x, zs_bl 3 (ic x)) ∧
  (∀ x, c ≤ x → ic x = 0) ∧
  (∀ x k, x < c → k < (ic x).toNatClampNeg → zs_bl x (ia (x * 2 + k))) ∧
  (∀ i, i < m → zs_bl c (ow i)) ∧
  (∀ i, im i = 0 ∨ im i = 1) ∧
  (∀ i, i < m → im i = 0 → pa i = 0) ∧
  (∀ i, zs_bl 65536 (pa i)) ∧
  (∀ i, i < m → zs_ok c (ty i))
def i_Rel (_ : Nat) (u : SX) (v : SY) : Prop := ∃ (c m : Nat) (su fi ic ia ow im na pa ty fl sc fd : Nat → Int32) (se : Nat → Int64), u = (nI c, nI m, su, fi, ic, ia, ow, im, na, pa, ty, fl, sc) ∧ v = (nI c, nI m, su, fi, ic, ia, ow, im, na, pa, ty, fl, fd, se) ∧ zs_Inv c m su fi ic ia ow im pa ty
theorem i_up {k : Nat} {u : SX} {v : SY} (h : i_Rel k u v) : i_Rel (k + 7) u v := h
theorem zs_el {P : SX → SY → Prop} {k : Nat} {u : SX} {v : SY} (I : i_Rel k u v) (h : ∀ (c m : Nat) (su fi ic ia ow im na pa ty fl sc fd : Nat → Int32) (se : Nat → Int64), zs_Inv c m su fi ic ia ow im pa ty → P (nI c, nI m, su, fi, ic, ia, ow, im, na, pa, ty, fl, sc) (nI c, nI m, su, fi, ic, ia, ow, im, na, pa, ty, fl, fd, se)) : P u v := by
  obtain ⟨c, m, su, fi, ic, ia, ow, im, na, pa, ty, fl, sc, fd, se, rfl, rfl, H⟩ := I
  exact h c m su fi ic ia ow im na pa ty fl sc fd se H
theorem i_vc0 : wpX_init (fun u => wpY_init (fun v => i_Rel 0 u v)) := by
  refine ⟨1, 0, fun _ => 0, fun _ => 0, fun _ => 0, fun _ => 0, fun _ => 0, fun _ => 0, fun _ => 0, fun _ => 0, fun _ => 0, fun _ => 0, fun _ => 0, fun _ => 0, fun _ => 0, rfl, rfl, ?_⟩
  refine ⟨⟨by omega, by omega, by omega⟩, ?_, fun _ => Or.inl rfl, fun _ => ⟨0, by omega, rfl⟩, fun _ _ => rfl, ?_, fun i hi => absurd hi (by omega), fun _ => Or.inl rfl, fun _ _ _ => rfl, fun _ => ⟨0, by omega, rfl⟩, fun i hi => absurd hi (by omega)⟩
  · intro x hx h0; omega
  · intro x k hx hk
    exact absurd hk (Nat.not_lt_zero k)
section
variable {c m : Nat} {su fi ic ia ow im na pa ty fl sc fd : Nat → Int32} {se : Nat → Int64}
theorem zs_nbyte : ∀ s, s < 6 → vp_nar .byte (nI s).toInt8.toInt32 = nI s := by
  intro s hs
  rw [vp_nar_byte]
  exact (by decide : ∀ s, s < 6 → (nI s).toInt8.toInt32.toInt8.toInt32 = nI s) s hs
theorem zs_nbm1 : vp_nar .byte (-1 : Int32).toInt8.toInt32 = -1 := by
  rw [vp_nar_byte]
  decide
theorem zs_nb0 : vp_nar .byte 0 = 0 := by
  rw [vp_nar_byte]
  decide
theorem zs_nbok {t : Int32} (hc : c ≤ 6) (h : zs_ok c t) : vp_nar .byte t.toInt8.toInt32 = t := by
  rcases h with rfl | ⟨j, hj, rfl⟩
  · exact zs_nbm1
  · exact zs_nbyte j (by omega)
theorem zs_okS {t : Int32} (h : zs_ok c t) : zs_ok (c + 1) t := h.imp id (fun ⟨j, hj, e⟩ => ⟨j, by omega, e⟩)
theorem zs_up0 {f : Nat → Int32} {j : Nat} {x : Int32} (h : f j = x) : upd f j x = f := by
  funext i
  by_cases z : i = j
  · rw [z, pk_us, h]
  · rw [pk_un z]
theorem zs_InvC {s : Nat} {b : Int32} (H : zs_Inv c m su fi ic ia ow im pa ty) (hc : c < 6) (hs : s < c) (hb : b = 0 ∨ b = 1) : zs_Inv (c + 1) m (upd su c (nI s)) (upd fi c b) ic ia ow im pa ty := by
  obtain ⟨⟨hc1, hc6, hm8⟩, hsu, hfi, hic, hz, hia, how, him, hfp, hpa, hty⟩ := H
  refine ⟨⟨by omega, by omega, hm8⟩, ?_, ?_, hic, fun x hx => hz x (by omega), ?_, ?_, him, hfp, hpa, fun i hi => zs_okS (hty i hi)⟩
  · intro x hx h0
    by_cases z : x = c
    · rw [z, pk_us]; exact ⟨s, hs, rfl⟩
    · rw [pk_un z]; exact hsu x (by omega) h0
  · intro x
    by_cases z : x = c
    · rw [z, pk_us]; exact hb
    · rw [pk_un z]; exact hfi x
  · intro x k hx hk
    by_cases z : x = c
    · rw [z, hz c (by omega)] at hk
      exact absurd hk (Nat.not_lt_zero k)
    · exact hia x k (by omega) hk
  · intro i hi
    obtain ⟨j, hj, e⟩ := how i hi
    exact ⟨j, by omega, e⟩
theorem zs_InvI {p i q : Nat} (H : zs_Inv c m su fi ic ia ow im pa ty) (hp : p < c) (hi : i < p) (hq : q < 2) (e : ic p = nI q) : zs_Inv c m su fi (upd ic p (nI (q + 1))) (upd ia (p * 2 + q) (nI i)) ow im pa ty := by
  obtain ⟨⟨hc1, hc6, hm8⟩, hsu, hfi, hic, hz, hia, how, him, hfp, hpa, hty⟩ := H
  refine ⟨⟨hc1, hc6, hm8⟩, hsu, hfi, ?_, ?_, ?_, how, him, hfp, hpa, hty⟩
  · intro x
    by_cases z : x = p
    · rw [z, pk_us]; exact ⟨q + 1, by omega, rfl⟩
    · rw [pk_un z]; exact hic x
  · intro x hx
    rw [pk_un (show x ≠ p by omega)]
    exact hz x hx
  · intro x k hx hk
    by_cases z : x = p
    · rw [z, pk_us, nI_clamp (n := q + 1) (by omega)] at hk
      rw [z]
      by_cases w : k = q
      · rw [w, pk_us]; exact ⟨i, hi, rfl⟩
      · rw [pk_un (show p * 2 + k ≠ p * 2 + q by omega)]
        exact hia p k hp (by rw [e, nI_clamp (n := q) (by omega)]; omega)
    · rw [pk_un z] at hk
      obtain ⟨K, hK, eK⟩ := hic x
      have hk2 : k < K := by rw [eK, nI_clamp (n := K) (by omega)] at hk; exact hk
      rw [pk_un (show x * 2 + k ≠ p * 2 + q by omega)]
      exact hia x k hx hk
theorem zs_InvM {o : Nat} {b w t : Int32} (H : zs_Inv c m su fi ic ia ow im pa ty) (hm : m < 8) (ho : o < c) (hb : b = 0 ∨ b = 1) (hw : zs_bl 65536 w) (hbw : b = 0 → w = 0) (ht : zs_ok c t) : zs_Inv c (m + 1) su fi ic ia (upd ow m (nI o)) (upd im m b) (upd pa m w) (upd ty m t) := by
  obtain ⟨⟨hc1, hc6, hm8⟩, hsu, hfi, hic, hz, hia, how, him, hfp, hpa, hty⟩ := H
  refine ⟨⟨hc1, hc6, by omega⟩, hsu, hfi, hic, hz, hia, ?_, ?_, ?_, ?_, ?_⟩
  · intro i hi
    by_cases z : i = m
    · rw [z, pk_us]; exact ⟨o, ho, rfl⟩
    · rw [pk_un z]; exact how i (by omega)
  · intro i
    by_cases z : i = m
    · rw [z, pk_us]; exact hb
    · rw [pk_un z]; exact him i
  · intro i hi h
    by_cases z : i = m
    · rw [z, pk_us] at h
      rw [z, pk_us]
      exact hbw h
    · rw [pk_un z] at h
      rw [pk_un z]
      exact hfp i (by omega) h
  · intro i
    by_cases z : i = m
    · rw [z, pk_us]; exact hw
    · rw [pk_un z]; exact hpa i
  · intro i hi
    by_cases z : i = m
    · rw [z, pk_us]; exact ht
    · rw [pk_un z]; exact hty i (by omega)
/-! the stores -/
theorem zs_X54 {post : Int32 → SX → Prop} {s : Nat} {b : Int32} (hc : c < 6) (hs : s < 6) (hb : b = 0 ∨ b = 1) (h0 : ic c = 0) (h : post (nI c) (nI (c + 1), nI m, upd su c (nI s), upd fi c b, ic, ia, ow, im, na, pa, ty, fl, sc)) : wX_addClass_54 post (nI s) b (nI c) (nI m) su fi ic ia ow im na pa ty fl sc := by
  have hv : vp_in (nI c) 6 := vp_in_nI hc (by omega)
  unfold wX_addClass_54
  rw [nI_clamp (n := c) (by omega), zs_vb hb, zs_nbyte s hs, zs_nb0, zs_up0 h0]
  exact ⟨hv, nm_e ⟨hv, nm_e ⟨hv, nm_e (nm_r (nI_1 c) h)⟩⟩⟩
theorem zs_Y46 {post : Int32 → SY → Prop} {s : Nat} {b : Int32} (hc : c < 6) (hs : s < 6) (hb : b = 0 ∨ b = 1) (h : post (nI c) (nI (c + 1), nI m, upd su c (nI s), upd fi c b, ic, ia, ow, im, na, pa, ty, fl, fd, se)) : wY_addClass_46 post (nI s) b (nI c) (nI m) su fi ic ia ow im na pa ty fl fd se := by
  have hv : vp_in (nI c) 6 := vp_in_nI hc (by omega)
  unfold wY_addClass_46
  rw [nI_clamp (n := c) (by omega), zs_vb hb, zs_nbyte s hs]
  exact ⟨hv, nm_e ⟨hv, nm_e (nm_r (nI_1 c) h)⟩⟩
theorem zs_dup {o b t f n w : Int32} (hm : m < 8) : ∀ d i, i + d = m → ∃ q : Bool, (∀ post : Int32 → SX → Prop, (q = true → post (-7) (nI c, nI m, su, fi, ic, ia, ow, im, na, pa, ty, fl, sc)) → (q = false → post (nI m) (nI c, nI (m + 1), su, fi, ic, ia, upd ow m (vp_nar .byte o.toInt8.toInt32), upd im m (vp_nar .boolean b), upd na m (vp_nar .short n), upd pa m (vp_nar .char w), upd ty m (vp_nar .byte t.toInt8.toInt32), upd fl m (vp_nar .byte f.toInt8.toInt32), sc)) → wX_addMember_65 post o b t f n w (nI c) (nI m) su fi ic ia ow im na pa ty fl sc (d + 1) (nI i)) ∧ (∀ post : Int32 → SY → Prop, (q = true → post (-7) (nI c, nI m, su, fi, ic, ia, ow, im, na, pa, ty, fl, fd, se)) → (q = false → post (nI m) (nI c, nI (m + 1), su, fi, ic, ia, upd ow m (vp_nar .byte o.toInt8.toInt32), upd im m (vp_nar .boolean b), upd na m (vp_nar .short n), upd pa m (vp_nar .char w), upd ty m (vp_nar .byte t.toInt8.toInt32), upd fl m (vp_nar .byte f.toInt8.toInt32), fd, se)) → wY_addMember_61 post o b t f n w (nI c) (nI m) su fi ic ia ow im na pa ty fl fd se (d + 1) (nI i)) := by
  intro d
  induction d with
  | zero =>
    intro i hi
    have hv : vp_in (nI m) 8 := vp_in_nI hm (by omega)
    refine ⟨false, fun post _ h => br_t (nI_le (by omega) (by omega)) ?_, fun post _ h => br_t (nI_le (by omega) (by omega)) ?_⟩
    · rw [nI_clamp (n := m) (by omega)]
      exact ⟨hv, nm_e ⟨hv, nm_e ⟨hv, nm_e ⟨hv, nm_e ⟨hv, nm_e ⟨hv, nm_e (nm_r (nI_1 m) (h rfl))⟩⟩⟩⟩⟩⟩
    · rw [nI_clamp (n := m) (by omega)]
      exact ⟨hv, nm_e ⟨hv, nm_e ⟨hv, nm_e ⟨hv, nm_e ⟨hv, nm_e ⟨hv, nm_e (nm_r (nI_1 m) (h rfl))⟩⟩⟩⟩⟩⟩
  | succ d ih =>
    intro i hi
    have hv : vp_in (nI i) 8 := vp_in_nI (by omega) (by omega)
    have g : ¬ nI m ≤ nI i := nI_ge (by omega) (by omega)
    obtain ⟨q, kX, kY⟩ := ih (i + 1) (by omega)
    by_cases h1 : ow (nI i).toNatClampNeg = o
    · by_cases h2 : im (nI i).toNatClampNeg = b
      · by_cases h3 : na (nI i).toNatClampNeg = n
        · by_cases h4 : pa (nI i).toNatClampNeg = w
          · by_cases h5 : ty (nI i).toNatClampNeg = t
            · exact ⟨true, fun post a _ => br_f g ⟨hv, br_t h1 ⟨hv, br_t h2 ⟨hv, br_t h3 ⟨hv, br_t h4 ⟨hv, br_t h5 (a rfl)⟩⟩⟩⟩⟩, fun post a _ => br_f g ⟨hv, br_t h1 ⟨hv, br_t h2 ⟨hv, br_t h3 ⟨hv, br_t h4 ⟨hv, br_t h5 (a rfl)⟩⟩⟩⟩⟩⟩
            · exact ⟨q, fun post a z => br_f g ⟨hv, br_t h1 ⟨hv, br_t h2 ⟨hv, br_t h3 ⟨hv, br_t h4 ⟨hv, br_f h5 (nm_r (nI_1 i) (kX post a z))⟩⟩⟩⟩⟩, fun post a z => br_f g ⟨hv, br_t h1 ⟨hv, br_t h2 ⟨hv, br_t h3 ⟨hv, br_t h4 ⟨hv, br_f h5 (nm_r (nI_1 i) (kY post a z))⟩⟩⟩⟩⟩⟩
          · exact ⟨q, fun post a z => br_f g ⟨hv, br_t h1 ⟨hv, br_t h2 ⟨hv, br_t h3 ⟨hv, br_f h4 (nm_r (nI_1 i) (kX post a z))⟩⟩⟩⟩, fun post a z => br_f g ⟨hv, br_t h1 ⟨hv, br_t h2 ⟨hv, br_t h3 ⟨hv, br_f h4 (nm_r (nI_1 i) (kY post a z))⟩⟩⟩⟩⟩
        · exact ⟨q, fun post a z => br_f g ⟨hv, br_t h1 ⟨hv, br_t h2 ⟨hv, br_f h3 (nm_r (nI_1 i) (kX post a z))⟩⟩⟩, fun post a z => br_f g ⟨hv, br_t h1 ⟨hv, br_t h2 ⟨hv, br_f h3 (nm_r (nI_1 i) (kY post a z))⟩⟩⟩⟩
      · exact ⟨q, fun post a z => br_f g ⟨hv, br_t h1 ⟨hv, br_f h2 (nm_r (nI_1 i) (kX post a z))⟩⟩, fun post a z => br_f g ⟨hv, br_t h1 ⟨hv, br_f h2 (nm_r (nI_1 i) (kY post a z))⟩⟩⟩
    · exact ⟨q, fun post a z => br_f g ⟨hv, br_f h1 (nm_r (nI_1 i) (kX post a z))⟩, fun post a z => br_f g ⟨hv, br_f h1 (nm_r (nI_1 i) (kY post a z))⟩⟩
/-! a row of the table as a long -/
theorem zs_l16 (x : Int32) : (x &&& 65535).toInt64 = x.toInt64 &&& 65535 := by
  rw [Int32.toInt64_and]
  rfl
theorem zs_l8 (x : Int32) : (x &&& 255).toInt64 = x.toInt64 &&& 255 := by
  rw [Int32.toInt64_and]
  rfl
theorem zs_lp {x : Int32} (h : zs_bl 65536 x) : (x &&& 65535).toInt64 = x.toInt64 := by
  obtain ⟨w, hw, rfl⟩ := h
  rw [nx_m16 hw]
theorem zs_lo {x : Int32} (h : zs_bl 6 x) : ((x &&& 7).toInt64) <<< ((1 : Int32).toInt64 &&& 63) = (x <<< ((1 : Int32) &&& 31)).toInt64 := by
  obtain ⟨j, hj, rfl⟩ := h
  exact (by decide +kernel : ∀ j, j < 6 → ((nI j &&& 7).toInt64) <<< ((1 : Int32).toInt64 &&& 63) = (nI j <<< ((1 : Int32) &&& 31)).toInt64) j hj
end
end
section
/-! what is owed -/
theorem i_vc_addClass {k : Nat} {u : SX} {v : SY} (I : i_Rel k u v) (hk : k + 7 ≤ 3584) (v1 : Int32) (v2 : Int32) : wpX_addClass (fun r u' => wpY_addClass (fun r' v' => r' = r ∧ i_Rel (k + 7) u' v') v v1 (lw_bz v2)) u v1 (lw_bz v2) := by
  refine zs_el (P := fun u v => wpX_addClass (fun r u' => wpY_addClass (fun r' v' => r' = r ∧ i_Rel (k + 7) u' v') v v1 (lw_bz v2)) u v1 (lw_bz v2)) I ?_
  intro c m su fi ic ia ow im na pa ty fl sc fd se H
  have R : i_Rel (k + 7) (nI c, nI m, su, fi, ic, ia, ow, im, na, pa, ty, fl, sc) (nI c, nI m, su, fi, ic, ia, ow, im, na, pa, ty, fl, fd, se) := ⟨c, m, su, fi, ic, ia, ow, im, na, pa, ty, fl, sc, fd, se, rfl, rfl, H⟩
  obtain ⟨⟨hc1, hc6, hm8⟩, hsu, hfi, hic, hz, hia, how, him, hfp, hpa, hty⟩ := id H
  have hb := lw_bz_01 v2
  by_cases hc : c < 6
  · have n6 : ¬ nI c = 6 := fun w => absurd ((nI_eq (b := 6) (by omega) (by decide)).mp w) (by omega)
    have bad : (v1 < 0 ∨ nI c ≤ v1) → wpY_addClass (fun r' v' => r' = (-3 : Int32) ∧ i_Rel (k + 7) (nI c, nI m, su, fi, ic, ia, ow, im, na, pa, ty, fl, sc) v') (nI c, nI m, su, fi, ic, ia, ow, im, na, pa, ty, fl, fd, se) v1 (lw_bz v2) := fun z => br_f n6 (zs_Yk0 z (br_t rfl ⟨rfl, R⟩))
    refine br_t (nI_lt (b := 6) hc (by decide)) ?_
    by_cases z0 : v1 < 0
    · exact br_t z0 (bad (Or.inl z0))
    · refine br_f z0 ?_
      by_cases z1 : v1 < nI c
      · refine br_t z1 ?_
        obtain ⟨s, hs31, rfl⟩ := nI_of z0
        have hs : s < c := (nI_ltI hs31 (by omega)).mp z1
        have vs : vp_in (nI s) 6 := vp_in_nI (by omega) (by omega)
        have R' : i_Rel (k + 7) (nI (c + 1), nI m, upd su c (nI s), upd fi c (lw_bz v2), ic, ia, ow, im, na, pa, ty, fl, sc) (nI (c + 1), nI m, upd su c (nI s), upd fi c (lw_bz v2), ic, ia, ow, im, na, pa, ty, fl, fd, se) := ⟨c + 1, m, upd su c (nI s), upd fi c (lw_bz v2), ic, ia, ow, im, na, pa, ty, fl, sc, fd, se, rfl, rfl, zs_InvC H hc hs hb⟩
        have Y46 : wY_addClass_46 (fun r' v' => r' = nI c ∧ i_Rel (k + 7) (nI (c + 1), nI m, upd su c (nI s), upd fi c (lw_bz v2), ic, ia, ow, im, na, pa, ty, fl, sc) v') (nI s) (lw_bz v2) (nI c) (nI m) su fi ic ia ow im na pa ty fl fd se := zs_Y46 hc (by omega) hb ⟨rfl, R'⟩
        by_cases b0 : lw_bz v2 = 0
        · refine br_t b0 (br_t b0 ⟨vs, ?_⟩)
          by_cases f0 : fi (nI s).toNatClampNeg = 0
          · exact br_t f0 (zs_X54 hc (by omega) hb (hz c (by omega)) (br_f n6 (zs_Yk1 hc6 hs (br_f (by decide) (br_t b0 ⟨vs, br_t f0 Y46⟩)))))
          · exact br_f f0 (br_f n6 (zs_Yk1 hc6 hs (br_f (by decide) (br_t b0 ⟨vs, br_f f0 ⟨rfl, R⟩⟩))))
        · refine br_f b0 ?_
          by_cases s0 : nI s = 0
          · exact br_t s0 (br_f b0 (zs_X54 hc (by omega) hb (hz c (by omega)) (br_f n6 (zs_Yk1 hc6 hs (br_f (by decide) (br_f b0 (br_t s0 Y46)))))))
          · exact br_f s0 (br_f n6 (zs_Yk1 hc6 hs (br_f (by decide) (br_f b0 (br_f s0 ⟨rfl, R⟩)))))
      · exact br_f z1 (bad (Or.inr (Int32.not_lt.mp z1)))
  · have e6 : c = 6 := by omega
    exact br_f (nI_nlt (b := 6) (by omega) (by omega)) (br_t (by rw [e6]; rfl) ⟨rfl, R⟩)
theorem i_vc_addIface {k : Nat} {u : SX} {v : SY} (I : i_Rel k u v) (hk : k + 7 ≤ 3584) (v1 : Int32) (v2 : Int32) : wpX_addIface (fun r u' => wpY_addIface (fun r' v' => r' = r ∧ i_Rel (k + 7) u' v') v v1 v2) u v1 v2 := by
  refine zs_el (P := fun u v => wpX_addIface (fun r u' => wpY_addIface (fun r' v' => r' = r ∧ i_Rel (k + 7) u' v') v v1 v2) u v1 v2) I ?_
  intro c m su fi ic ia ow im na pa ty fl sc fd se H
  have R : i_Rel (k + 7) (nI c, nI m, su, fi, ic, ia, ow, im, na, pa, ty, fl, sc) (nI c, nI m, su, fi, ic, ia, ow, im, na, pa, ty, fl, fd, se) := ⟨c, m, su, fi, ic, ia, ow, im, na, pa, ty, fl, sc, fd, se, rfl, rfl, H⟩
  obtain ⟨⟨hc1, hc6, hm8⟩, hsu, hfi, hic, hz, hia, how, him, hfp, hpa, hty⟩ := id H
  have bad1 : (v1 < 0 ∨ nI c ≤ v1) → wpY_addIface (fun r' v' => r' = (-3 : Int32) ∧ i_Rel (k + 7) (nI c, nI m, su, fi, ic, ia, ow, im, na, pa, ty, fl, sc) v') (nI c, nI m, su, fi, ic, ia, ow, im, na, pa, ty, fl, fd, se) v1 v2 := fun z => by
    unfold wpY_addIface
    dsimp only
    exact zs_Yk0 z (br_t rfl ⟨rfl, R⟩)
  by_cases z0 : v1 < 0
  · exact br_t z0 (bad1 (Or.inl z0))
  · refine br_f z0 ?_
    by_cases z1 : nI c ≤ v1
    · exact br_t z1 (bad1 (Or.inr z1))
    · refine br_f z1 ?_
      obtain ⟨p, hp31, rfl⟩ := nI_of z0
      have hp : p < c := (nI_ltI hp31 (by omega)).mp (Int32.not_le.mp z1)
      have vpp : vp_in (nI p) 6 := vp_in_nI (by omega) (by omega)
      have bad2 : (v2 < 0 ∨ nI c ≤ v2) → wpY_addIface (fun r' v' => r' = (-3 : Int32) ∧ i_Rel (k + 7) (nI c, nI m, su, fi, ic, ia, ow, im, na, pa, ty, fl, sc) v') (nI c, nI m, su, fi, ic, ia, ow, im, na, pa, ty, fl, fd, se) (nI p) v2 := fun z => by
        unfold wpY_addIface
        dsimp only
        exact zs_Yk1 hc6 hp (br_f (by decide) (zs_Yk0 z (br_t rfl ⟨rfl, R⟩)))
      by_cases y0 : v2 < 0
      · exact br_t y0 (bad2 (Or.inl y0))
      · refine br_f y0 ?_
        by_cases y1 : v2 < nI c
        · refine br_t y1 ?_
          obtain ⟨i, hi31, rfl⟩ := nI_of y0
          have hi : i < c := (nI_ltI hi31 (by omega)).mp y1
          have vpi : vp_in (nI i) 6 := vp_in_nI (by omega) (by omega)
          have YY : ∀ post : Int32 → SY → Prop, (vp_in (nI i) 6 ∧ ((((fi (nI i).toNatClampNeg) = 0 → (post (-5) (nI c, nI m, su, fi, ic, ia, ow, im, na, pa, ty, fl, fd, se))) ∧ (¬ (fi (nI i).toNatClampNeg) = 0 → (((nI i < nI p → (vp_in (nI p) 6 ∧ ((((ic (nI p).toNatClampNeg) = 2 → (post (-4) (nI c, nI m, su, fi, ic, ia, ow, im, na, pa, ty, fl, fd, se))) ∧ (¬ (ic (nI p).toNatClampNeg) = 2 → (vp_in (nI p) 6 ∧ (vp_in (nI p) 6 ∧ ∀ ic' : Nat → Int32, ic' = upd ic (nI p).toNatClampNeg (vp_nar .byte (((ic (nI p).toNatClampNeg) + 1).toInt8.toInt32)) → (∀ x : Int32, x = ic (nI p).toNatClampNeg → (vp_in ((nI p * 2) + x) 12 ∧ ∀ ia' : Nat → Int32, ia' = upd ia ((nI p * 2) + x).toNatClampNeg (vp_nar .byte (nI i).toInt8.toInt32) → (post x (nI c, nI m, su, fi, ic', ia', ow, im, na, pa, ty, fl, fd, se))))))))))) ∧ (¬ nI i < nI p → (post (-6) (nI c, nI m, su, fi, ic, ia, ow, im, na, pa, ty, fl, fd, se))))))))) → wpY_addIface post (nI c, nI m, su, fi, ic, ia, ow, im, na, pa, ty, fl, fd, se) (nI p) (nI i) := fun post h => by
            unfold wpY_addIface
            dsimp only
            exact zs_Yk1 hc6 hp (br_f (by decide) (zs_Yk1 hc6 hi (br_f (by decide) h)))
          refine ⟨vpi, ?_⟩
          by_cases f0 : fi (nI i).toNatClampNeg = 0
          · exact br_t f0 (YY _ ⟨vpi, br_t f0 ⟨rfl, R⟩⟩)
          · refine br_f f0 ?_
            by_cases lt : nI i < nI p
            · obtain ⟨q, hq, e⟩ := hic p
              have e' : ic (nI p).toNatClampNeg = nI q := by rw [nI_clamp (n := p) (by omega)]; exact e
              refine br_t lt ⟨vpp, nm_r e' ?_⟩
              by_cases q2 : q < 2
              · have E1 : upd ia ((nI p * 2) + nI q).toNatClampNeg (vp_nar .byte (nI i).toInt8.toInt32) = upd ia (p * 2 + q) (nI i) := by
                  rw [zs_ix, nI_clamp (n := p * 2 + q) (by omega), zs_nbyte i (by omega)]
                have E2 : upd ic (nI p).toNatClampNeg (vp_nar .byte ((nI q + 1).toInt8.toInt32)) = upd ic p (nI (q + 1)) := by
                  rw [nI_clamp (n := p) (by omega), nI_1, zs_nbyte (q + 1) (by omega)]
                have v12 : vp_in ((nI p * 2) + nI q) 12 := by
                  rw [zs_ix]
                  exact vp_in_nI (by omega) (by omega)
                have ne2 : ¬ ic (nI p).toNatClampNeg = 2 := by
                  rw [e']
                  exact fun w => absurd ((nI_eq (b := 2) (by omega) (by decide)).mp w) (by omega)
                have R' : i_Rel (k + 7) (nI c, nI m, su, fi, upd ic p (nI (q + 1)), upd ia (p * 2 + q) (nI i), ow, im, na, pa, ty, fl, sc) (nI c, nI m, su, fi, upd ic p (nI (q + 1)), upd ia (p * 2 + q) (nI i), ow, im, na, pa, ty, fl, fd, se) := ⟨c, m, su, fi, upd ic p (nI (q + 1)), upd ia (p * 2 + q) (nI i), ow, im, na, pa, ty, fl, sc, fd, se, rfl, rfl, zs_InvI H hp ((nI_ltI (by omega) (by omega)).mp lt) q2 e⟩
                have E3 : upd ic (nI p).toNatClampNeg (vp_nar .byte (((ic (nI p).toNatClampNeg) + 1).toInt8.toInt32)) = upd ic p (nI (q + 1)) := by
                  rw [e']
                  exact E2
                refine br_t (nI_lt (b := 2) q2 (by decide)) ⟨v12, nm_r E1 ⟨vpp, nm_r E2 ?_⟩⟩
                refine YY _ ⟨vpi, br_f f0 (br_t lt ⟨vpp, br_f ne2 ⟨vpp, vpp, ?_⟩⟩)⟩
                refine nm_r E3 (nm_r e' ⟨v12, nm_r E1 ?_⟩)
                exact ⟨rfl, R'⟩
              · have eq2 : q = 2 := by omega
                exact br_f (nI_nlt (b := 2) (by omega) (by omega)) (YY _ ⟨vpi, br_f f0 (br_t lt ⟨vpp, br_t (by rw [e', eq2]; rfl) ⟨rfl, R⟩⟩)⟩)
            · exact br_f lt (YY _ ⟨vpi, br_f f0 (br_f lt ⟨rfl, R⟩)⟩)
        · exact br_f y1 (bad2 (Or.inr (Int32.not_lt.mp y1)))
theorem zs_am {c m : Nat} {su fi ic ia ow im na pa ty fl sc fd : Nat → Int32} {se : Nat → Int64} {k o : Nat} {b n w t f : Int32} (H : zs_Inv c m su fi ic ia ow im pa ty) (hm : m < 8) (ho : o < c) (hb : b = 0 ∨ b = 1) (hw : zs_bl 65536 w) (hbw : b = 0 → w = 0) (ht : zs_ok c t) {WY : (Int32 → SY → Prop) → Prop} (hY : ∀ post, (∃ n61 : Nat, wY_addMember_61 post (nI o) b t f n w (nI c) (nI m) su fi ic ia ow im na pa ty fl fd se n61 0) → WY post) : ∃ n65 : Nat, wX_addMember_65 (fun r u' => WY (fun r' v' => r' = r ∧ i_Rel (k + 7) u' v')) (nI o) b t f n w (nI c) (nI m) su fi ic ia ow im na pa ty fl sc n65 0 := by
  obtain ⟨q, kX, kY⟩ := zs_dup (c := c) (m := m) (su := su) (fi := fi) (ic := ic) (ia := ia) (ow := ow) (im := im) (na := na) (pa := pa) (ty := ty) (fl := fl) (sc := sc) (fd := fd) (se := se) (o := nI o) (b := b) (t := t) (f := f) (n := n) (w := w) hm m 0 (by omega)
  obtain ⟨⟨hc1, hc6, hm8⟩, -⟩ := id H
  have ew : vp_nar .char w = w := by
    obtain ⟨z, hz, rfl⟩ := hw
    exact Value.int.inj (pk_charN hz).1
  have I2 := zs_InvM H hm ho hb hw hbw ht
  refine ⟨m + 1, kX _ (fun z => hY _ ⟨m + 1, kY _ (fun _ => ⟨rfl, ?_⟩) (fun y => absurd (z.symm.trans y) (by decide))⟩) (fun z => hY _ ⟨m + 1, kY _ (fun y => absurd (y.symm.trans z) (by decide)) (fun _ => ⟨rfl, ?_⟩)⟩)⟩
  · exact ⟨c, m, su, fi, ic, ia, ow, im, na, pa, ty, fl, sc, fd, se, rfl, rfl, H⟩
  · rw [zs_nbyte o (by omega), zs_vb hb, ew, zs_nbok hc6 ht]
    exact ⟨c, m + 1, su, fi, ic, ia, upd ow m (nI o), upd im m b, upd na m (vp_nar .short n), upd pa m w, upd ty m t, upd fl m (vp_nar .byte f.toInt8.toInt32), sc, fd, se, rfl, rfl, I2⟩
theorem i_vc_addMember {k : Nat} {u : SX} {v : SY} (I : i_Rel k u v) (hk : k + 7 ≤ 3584) (v1 : Int32) (v2 : Int32) (v3 : Int32) (v4 : Int32) (v5 : Int32) (v6 : Int32) : wpX_addMember (fun r u' => wpY_addMember (fun r' v' => r' = r ∧ i_Rel (k + 7) u' v') v v1 (lw_bz v2) v3 v4 v5 v6) u v1 (lw_bz v2) v3 v4 v5 v6 := by
  refine zs_el (P := fun u v => wpX_addMember (fun r u' => wpY_addMember (fun r' v' => r' = r ∧ i_Rel (k + 7) u' v') v v1 (lw_bz v2) v3 v4 v5 v6) u v1 (lw_bz v2) v3 v4 v5 v6) I ?_
  intro c m su fi ic ia ow im na pa ty fl sc fd se H
  have R : i_Rel (k + 7) (nI c, nI m, su, fi, ic, ia, ow, im, na, pa, ty, fl, sc) (nI c, nI m, su, fi, ic, ia, ow, im, na, pa, ty, fl, fd, se) := ⟨c, m, su, fi, ic, ia, ow, im, na, pa, ty, fl, sc, fd, se, rfl, rfl, H⟩
  obtain ⟨⟨hc1, hc6, hm8⟩, hsu, hfi, hic, hz, hia, how, him, hfp, hpa, hty⟩ := id H
  have hb := lw_bz_01 v2
  by_cases hm : m < 8
  · have n8 : ¬ nI m = 8 := fun w => absurd ((nI_eq (b := 8) (by omega) (by decide)).mp w) (by omega)
    have bad : (v1 < 0 ∨ nI c ≤ v1) → wpY_addMember (fun r' v' => r' = (-3 : Int32) ∧ i_Rel (k + 7) (nI c, nI m, su, fi, ic, ia, ow, im, na, pa, ty, fl, sc) v') (nI c, nI m, su, fi, ic, ia, ow, im, na, pa, ty, fl, fd, se) v1 (lw_bz v2) v3 v4 v5 v6 := fun z => br_f n8 (zs_Yk0 z (br_t rfl ⟨rfl, R⟩))
    refine br_t (nI_lt (b := 8) hm (by decide)) ?_
    by_cases z0 : v1 < 0
    · exact br_t z0 (bad (Or.inl z0))
    · refine br_f z0 ?_
      by_cases z1 : v1 < nI c
      · refine br_t z1 ?_
        obtain ⟨o, ho31, rfl⟩ := nI_of z0
        have ho : o < c := (nI_ltI ho31 (by omega)).mp z1
        by_cases t0 : v5 < (-1)
        · exact br_t t0 (br_f n8 (zs_Yk1 hc6 ho (br_f (by decide) (br_t t0 ⟨rfl, R⟩))))
        · refine br_f t0 ?_
          by_cases t1 : v5 < nI c
          · refine br_t t1 ?_
            have ht := zs_okI hc6 t0 t1
            by_cases b0 : lw_bz v2 = 0
            · exact br_t b0 (zs_am H hm ho hb ⟨0, by omega, rfl⟩ (fun _ => rfl) ht (WY := fun post => wpY_addMember post (nI c, nI m, su, fi, ic, ia, ow, im, na, pa, ty, fl, fd, se) (nI o) (lw_bz v2) v3 v4 v5 v6) (fun post h => br_f n8 (zs_Yk1 hc6 ho (br_f (by decide) (br_f t0 (br_t t1 (br_t b0 (nm_r (e' := 0) (by decide) h))))))))
            · exact br_f b0 (nm_e (zs_am H hm ho hb ⟨_, Nat.mod_lt _ (by decide), pk_char v4⟩ (fun z => absurd z b0) ht (WY := fun post => wpY_addMember post (nI c, nI m, su, fi, ic, ia, ow, im, na, pa, ty, fl, fd, se) (nI o) (lw_bz v2) v3 v4 v5 v6) (fun post h => br_f n8 (zs_Yk1 hc6 ho (br_f (by decide) (br_f t0 (br_t t1 (br_f b0 (nm_e h)))))))))
          · exact br_f t1 (br_f n8 (zs_Yk1 hc6 ho (br_f (by decide) (br_f t0 (br_f t1 ⟨rfl, R⟩)))))
      · exact br_f z1 (bad (Or.inr (Int32.not_lt.mp z1)))
  · have e8 : m = 8 := by omega
    exact br_f (nI_nlt (b := 8) (by omega) (by omega)) (br_t (by rw [e8]; rfl) ⟨rfl, R⟩)
theorem i_vc_isSubtype {k : Nat} {u : SX} {v : SY} (I : i_Rel k u v) (hk : k + 7 ≤ 3584) (v1 : Int32) (v2 : Int32) : wpX_isSubtype (fun r => wpY_isSubtype (fun r' => r' = r ∧ i_Rel (k + 7) u v) v v1 v2) u v1 v2 := by
  refine zs_el (P := fun u v => wpX_isSubtype (fun r => wpY_isSubtype (fun r' => r' = r ∧ i_Rel (k + 7) u v) v v1 v2) u v1 v2) I ?_
  intro c m su fi ic ia ow im na pa ty fl sc fd se H
  have R : i_Rel (k + 7) (nI c, nI m, su, fi, ic, ia, ow, im, na, pa, ty, fl, sc) (nI c, nI m, su, fi, ic, ia, ow, im, na, pa, ty, fl, fd, se) := ⟨c, m, su, fi, ic, ia, ow, im, na, pa, ty, fl, sc, fd, se, rfl, rfl, H⟩
  obtain ⟨⟨hc1, hc6, hm8⟩, hsu, hfi, hic, hz, hia, how, him, hfp, hpa, hty⟩ := id H
  by_cases s0 : v1 < (-1)
  · exact br_t s0 (br_t s0 ⟨rfl, R⟩)
  · by_cases s1 : nI c ≤ v1
    · exact br_f s0 (br_t s1 (br_f s0 (br_t s1 ⟨rfl, R⟩)))
    · by_cases t0 : v2 < (-1)
      · exact br_f s0 (br_f s1 (br_t t0 (br_f s0 (br_f s1 (br_t t0 ⟨rfl, R⟩)))))
      · by_cases t1 : v2 < nI c
        · have hs := zs_okI hc6 s0 (Int32.not_le.mp s1)
          have ht := zs_okI hc6 t0 t1
          exact zs_Xsub hc6 hic hs ht (br_f s0 (br_f s1 (br_f t0 (br_t t1 (zs_Ysub hc6 hic hs ht ⟨zs_nb (zs_sub01 _ _ _ _ _), rfl, R⟩)))))
        · exact br_f s0 (br_f s1 (br_f t0 (br_f t1 (br_f s0 (br_f s1 (br_f t0 (br_f t1 ⟨rfl, R⟩)))))))
theorem i_vc_getField {k : Nat} {u : SX} {v : SY} (I : i_Rel k u v) (hk : k + 7 ≤ 3584) (v1 : Int32) (v2 : Int32) : wpX_getField (fun r u' => wpY_getField (fun r' v' => r' = r ∧ i_Rel (k + 7) u' v') v v1 v2) u v1 v2 := by
  refine zs_el (P := fun u v => wpX_getField (fun r u' => wpY_getField (fun r' v' => r' = r ∧ i_Rel (k + 7) u' v') v v1 v2) u v1 v2) I ?_
  intro c m su fi ic ia ow im na pa ty fl sc fd se H
  have R : i_Rel (k + 7) (nI c, nI m, su, fi, ic, ia, ow, im, na, pa, ty, fl, sc) (nI c, nI m, su, fi, ic, ia, ow, im, na, pa, ty, fl, fd, se) := ⟨c, m, su, fi, ic, ia, ow, im, na, pa, ty, fl, sc, fd, se, rfl, rfl, H⟩
  obtain ⟨⟨hc1, hc6, hm8⟩, hsu, hfi, hic, hz, hia, how, him, hfp, hpa, hty⟩ := id H
  have bad : (v1 < 0 ∨ nI c ≤ v1) → wpY_getField (fun r' v' => r' = (-3 : Int32) ∧ i_Rel (k + 7) (nI c, nI m, su, fi, ic, ia, ow, im, na, pa, ty, fl, sc) v') (nI c, nI m, su, fi, ic, ia, ow, im, na, pa, ty, fl, fd, se) v1 v2 := fun z => by
    unfold wpY_getField
    dsimp only
    exact zs_Yk0 z (br_t rfl ⟨rfl, R⟩)
  by_cases z0 : v1 < 0
  · exact br_t z0 (bad (Or.inl z0))
  · refine br_f z0 ?_
    by_cases z1 : v1 < nI c
    · refine br_t z1 ?_
      obtain ⟨C, hC31, rfl⟩ := nI_of z0
      have hC : C < c := (nI_ltI hC31 (by omega)).mp z1
      obtain ⟨r, sc', fd', kX, kY⟩ := zs_gf (c := c) (m := m) (su := su) (fi := fi) (ic := ic) (ia := ia) (ow := ow) (im := im) (na := na) (pa := pa) (ty := ty) (fl := fl) (se := se) (n := v2.toInt16.toInt32) hc6 hm8 hC hsu hic hia hfp (C + 1) 0 sc fd (by omega) (fun y hy => absurd hy (Nat.not_lt_zero y)) (fun y hy => absurd hy (Nat.not_lt_zero y))
      refine ⟨C + 1 + 1, kX _ ?_⟩
      unfold wpY_getField
      dsimp only
      refine zs_Yk1 hc6 hC (br_f (by decide) ⟨C + 1 + 1, kY _ ?_⟩)
      exact ⟨rfl, ⟨c, m, su, fi, ic, ia, ow, im, na, pa, ty, fl, sc', fd', se, rfl, rfl, H⟩⟩
    · exact br_f z1 (bad (Or.inr (Int32.not_lt.mp z1)))
theorem i_vc_getDeclaredField {k : Nat} {u : SX} {v : SY} (I : i_Rel k u v) (hk : k + 7 ≤ 3584) (v1 : Int32) (v2 : Int32) : wpX_getDeclaredField (fun r => wpY_getDeclaredField (fun r' => r' = r ∧ i_Rel (k + 7) u v) v v1 v2) u v1 v2 := by
  refine zs_el (P := fun u v => wpX_getDeclaredField (fun r => wpY_getDeclaredField (fun r' => r' = r ∧ i_Rel (k + 7) u v) v v1 v2) u v1 v2) I ?_
  intro c m su fi ic ia ow im na pa ty fl sc fd se H
  have R : i_Rel (k + 7) (nI c, nI m, su, fi, ic, ia, ow, im, na, pa, ty, fl, sc) (nI c, nI m, su, fi, ic, ia, ow, im, na, pa, ty, fl, fd, se) := ⟨c, m, su, fi, ic, ia, ow, im, na, pa, ty, fl, sc, fd, se, rfl, rfl, H⟩
  obtain ⟨⟨hc1, hc6, hm8⟩, hsu, hfi, hic, hz, hia, how, him, hfp, hpa, hty⟩ := id H
  have bad : (v1 < 0 ∨ nI c ≤ v1) → wpY_getDeclaredField (fun r' => r' = (-3 : Int32) ∧ i_Rel (k + 7) (nI c, nI m, su, fi, ic, ia, ow, im, na, pa, ty, fl, sc) (nI c, nI m, su, fi, ic, ia, ow, im, na, pa, ty, fl, fd, se)) (nI c, nI m, su, fi, ic, ia, ow, im, na, pa, ty, fl, fd, se) v1 v2 := fun z => by
    unfold wpY_getDeclaredField
    dsimp only
    exact zs_Yk0 z (br_t rfl ⟨rfl, R⟩)
  by_cases z0 : v1 < 0
  · exact br_t z0 (bad (Or.inl z0))
  · refine br_f z0 ?_
    by_cases z1 : v1 < nI c
    · refine br_t z1 ?_
      obtain ⟨C, hC31, rfl⟩ := nI_of z0
      have hC : C < c := (nI_ltI hC31 (by omega)).mp z1
      refine ⟨m + 1, zs_Xdf hm8 hfp m 0 (by omega) ?_⟩
      unfold wpY_getDeclaredField
      dsimp only
      refine zs_Yk1 hc6 hC (br_f (by decide) (zs_Ydecl hm8 (zs_Yfirst hm8 (zs_mk8 hm8) ?_)))
      rw [zs_fq]
      exact ⟨rfl, R⟩
    · exact br_f z1 (bad (Or.inr (Int32.not_lt.mp z1)))
theorem i_vc_getMethod {k : Nat} {u : SX} {v : SY} (I : i_Rel k u v) (hk : k + 7 ≤ 3584) (v1 : Int32) (v2 : Int32) (v3 : Int32) : wpX_getMethod (fun r u' => wpY_getMethod (fun r' v' => r' = r ∧ i_Rel (k + 7) u' v') v v1 v2 v3) u v1 v2 v3 := by
  refine zs_el (P := fun u v => wpX_getMethod (fun r u' => wpY_getMethod (fun r' v' => r' = r ∧ i_Rel (k + 7) u' v') v v1 v2 v3) u v1 v2 v3) I ?_
  intro c m su fi ic ia ow im na pa ty fl sc fd se H
  have R : i_Rel (k + 7) (nI c, nI m, su, fi, ic, ia, ow, im, na, pa, ty, fl, sc) (nI c, nI m, su, fi, ic, ia, ow, im, na, pa, ty, fl, fd, se) := ⟨c, m, su, fi, ic, ia, ow, im, na, pa, ty, fl, sc, fd, se, rfl, rfl, H⟩
  obtain ⟨⟨hc1, hc6, hm8⟩, hsu, hfi, hic, hz, hia, how, him, hfp, hpa, hty⟩ := id H
  have bad : (v1 < 0 ∨ nI c ≤ v1) → wpY_getMethod (fun r' v' => r' = (-3 : Int32) ∧ i_Rel (k + 7) (nI c, nI m, su, fi, ic, ia, ow, im, na, pa, ty, fl, sc) v') (nI c, nI m, su, fi, ic, ia, ow, im, na, pa, ty, fl, fd, se) v1 v2 v3 := fun z => by
    unfold wpY_getMethod wpY_method
    dsimp only
    exact zs_Yk0 z (br_t rfl ⟨rfl, R⟩)
  by_cases z0 : v1 < 0
  · exact br_t z0 (bad (Or.inl z0))
  · refine br_f z0 ?_
    by_cases z1 : v1 < nI c
    · refine br_t z1 ?_
      obtain ⟨C, hC31, rfl⟩ := nI_of z0
      have hC : C < c := (nI_ltI hC31 (by omega)).mp z1
      by_cases n0 : v2.toInt16.toInt32 = 0
      · refine br_t n0 ?_
        unfold wpY_getMethod wpY_method
        dsimp only
        exact zs_Yk1 hc6 hC (br_f (by decide) (br_t n0 ⟨rfl, R⟩))
      · refine br_f n0 ?_
        by_cases n1 : v2.toInt16.toInt32 = 1
        · refine br_t n1 ?_
          unfold wpY_getMethod wpY_method
          dsimp only
          exact zs_Yk1 hc6 hC (br_f (by decide) (br_f n0 (br_t n1 ⟨rfl, R⟩)))
        · refine br_f n1 (nm_e ?_)
          obtain ⟨s, sc', se', hs, kX, kY⟩ := zs_gm (c := c) (m := m) (su := su) (fi := fi) (ic := ic) (ia := ia) (ow := ow) (im := im) (na := na) (pa := pa) (ty := ty) (fl := fl) (fd := fd) (n := v2.toInt16.toInt32) (p := (v3.toUInt32 % 65536).toInt32) hc6 hm8 hC hsu hic hfi him how hia (C + 1) 0 (fun _ => 0) sc se (by omega) (fun y hy => absurd hy (Nat.not_lt_zero y)) (fun y hy => absurd hy (Nat.not_lt_zero y)) (fun y hy => absurd hy (Nat.not_lt_zero y))
          refine ⟨m + 1, zs_X43 hm8 ⟨C + 1 + 1, kX _ (zs_Xpick hc6 hm8 hic hty (zs_256 hm8 hs) ?_)⟩ m 0 (by omega)⟩
          unfold wpY_getMethod wpY_method
          dsimp only
          refine zs_Yk1 hc6 hC (br_f (by decide) (br_f n0 (br_f n1 (nm_e (br_t rfl ⟨C + 1 + 1, kY _ ?_⟩)))))
          refine zs_Ypick hc6 hm8 hic hty (zs_256 hm8 hs) ?_
          exact ⟨rfl, ⟨c, m, su, fi, ic, ia, ow, im, na, pa, ty, fl, sc', fd, se', rfl, rfl, H⟩⟩
    · exact br_f z1 (bad (Or.inr (Int32.not_lt.mp z1)))
theorem i_vc_getDeclaredMethod {k : Nat} {u : SX} {v : SY} (I : i_Rel k u v) (hk : k + 7 ≤ 3584) (v1 : Int32) (v2 : Int32) (v3 : Int32) : wpX_getDeclaredMethod (fun r => wpY_getDeclaredMethod (fun r' v' => r' = r ∧ i_Rel (k + 7) u v') v v1 v2 v3) u v1 v2 v3 := by
  refine zs_el (P := fun u v => wpX_getDeclaredMethod (fun r => wpY_getDeclaredMethod (fun r' v' => r' = r ∧ i_Rel (k + 7) u v') v v1 v2 v3) u v1 v2 v3) I ?_
  intro c m su fi ic ia ow im na pa ty fl sc fd se H
  have R : i_Rel (k + 7) (nI c, nI m, su, fi, ic, ia, ow, im, na, pa, ty, fl, sc) (nI c, nI m, su, fi, ic, ia, ow, im, na, pa, ty, fl, fd, se) := ⟨c, m, su, fi, ic, ia, ow, im, na, pa, ty, fl, sc, fd, se, rfl, rfl, H⟩
  obtain ⟨⟨hc1, hc6, hm8⟩, hsu, hfi, hic, hz, hia, how, him, hfp, hpa, hty⟩ := id H
  have bad : (v1 < 0 ∨ nI c ≤ v1) → wpY_getDeclaredMethod (fun r' v' => r' = (-3 : Int32) ∧ i_Rel (k + 7) (nI c, nI m, su, fi, ic, ia, ow, im, na, pa, ty, fl, sc) v') (nI c, nI m, su, fi, ic, ia, ow, im, na, pa, ty, fl, fd, se) v1 v2 v3 := fun z => by
    unfold wpY_getDeclaredMethod wpY_method
    dsimp only
    exact zs_Yk0 z (br_t rfl ⟨rfl, R⟩)
  by_cases z0 : v1 < 0
  · exact br_t z0 (bad (Or.inl z0))
  · refine br_f z0 ?_
    by_cases z1 : v1 < nI c
    · refine br_t z1 ?_
      obtain ⟨C, hC31, rfl⟩ := nI_of z0
      have hC : C < c := (nI_ltI hC31 (by omega)).mp z1
      by_cases n0 : v2.toInt16.toInt32 = 0
      · refine br_t n0 ?_
        unfold wpY_getDeclaredMethod wpY_method
        dsimp only
        exact zs_Yk1 hc6 hC (br_f (by decide) (br_t n0 ⟨rfl, R⟩))
      · refine br_f n0 ?_
        by_cases n1 : v2.toInt16.toInt32 = 1
        · refine br_t n1 ?_
          unfold wpY_getDeclaredMethod wpY_method
          dsimp only
          exact zs_Yk1 hc6 hC (br_f (by decide) (br_f n0 (br_t n1 ⟨rfl, R⟩)))
        · refine br_f n1 (nm_e ?_)
          refine ⟨m + 1, zs_Xdm hm8 him (zs_Xpick hc6 hm8 hic hty (zs_mk8 hm8) ?_) m 0 (by omega)⟩
          unfold wpY_getDeclaredMethod wpY_method
          dsimp only
          refine zs_Yk1 hc6 hC (br_f (by decide) (br_f n0 (br_f n1 (nm_e (br_f (by decide) (zs_Ydecl hm8 ?_))))))
          refine zs_Ypick hc6 hm8 hic hty (zs_mk8 hm8) ?_
          exact ⟨rfl, R⟩
    · exact br_f z1 (bad (Or.inr (Int32.not_lt.mp z1)))
theorem i_vc_memberCount {k : Nat} {u : SX} {v : SY} (I : i_Rel k u v) (hk : k + 7 ≤ 3584) : wpX_memberCount (fun r => wpY_memberCount (fun r' => r' = r ∧ i_Rel (k + 7) u v) v) u := by
  refine zs_el (P := fun u v => wpX_memberCount (fun r => wpY_memberCount (fun r' => r' = r ∧ i_Rel (k + 7) u v) v) u) I ?_
  intro c m su fi ic ia ow im na pa ty fl sc fd se H
  exact ⟨rfl, c, m, su, fi, ic, ia, ow, im, na, pa, ty, fl, sc, fd, se, rfl, rfl, H⟩
theorem i_vc_rowOf {k : Nat} {u : SX} {v : SY} (I : i_Rel k u v) (hk : k + 7 ≤ 3584) (v1 : Int32) : wpX_rowOf (fun r => wpY_rowOf (fun r' => r' = r ∧ i_Rel (k + 7) u v) v v1) u v1 := by
  refine zs_el (P := fun u v => wpX_rowOf (fun r => wpY_rowOf (fun r' => r' = r ∧ i_Rel (k + 7) u v) v v1) u v1) I ?_
  intro c m su fi ic ia ow im na pa ty fl sc fd se H
  have R : i_Rel (k + 7) (nI c, nI m, su, fi, ic, ia, ow, im, na, pa, ty, fl, sc) (nI c, nI m, su, fi, ic, ia, ow, im, na, pa, ty, fl, fd, se) := ⟨c, m, su, fi, ic, ia, ow, im, na, pa, ty, fl, sc, fd, se, rfl, rfl, H⟩
  obtain ⟨⟨hc1, hc6, hm8⟩, hsu, hfi, hic, hz, hia, how, him, hfp, hpa, hty⟩ := id H
  by_cases z0 : v1 < 0
  · exact br_t z0 (br_t z0 ⟨rfl, R⟩)
  · by_cases z1 : v1 < nI m
    · obtain ⟨j, hj31, rfl⟩ := nI_of z0
      have hj : j < m := (nI_ltI hj31 (by omega)).mp z1
      have hv : vp_in (nI j) 8 := vp_in_nI (by omega) (by omega)
      have cl : (nI j).toNatClampNeg = j := nI_clamp (by omega)
      have eo := zs_lo (x := ow (nI j).toNatClampNeg) (by rw [cl]; obtain ⟨i, hi, e⟩ := how j hj; exact ⟨i, by omega, e⟩)
      have ep := zs_lp (hpa (nI j).toNatClampNeg)
      by_cases m0 : im (nI j).toNatClampNeg = 0
      · refine br_f z0 (br_t z1 ⟨hv, nm_e ⟨hv, nm_e ⟨hv, nm_e ⟨hv, nm_e ⟨hv, nm_e ⟨hv, br_t m0 ?_⟩⟩⟩⟩⟩⟩)
        refine br_f z0 (br_t z1 ⟨hv, hv, hv, hv, hv, hv, br_t m0 ⟨?_, R⟩⟩)
        rw [eo, ep, zs_l16, zs_l8, zs_l8, Int64.or_zero]
      · refine br_f z0 (br_t z1 ⟨hv, nm_e ⟨hv, nm_e ⟨hv, nm_e ⟨hv, nm_e ⟨hv, nm_e ⟨hv, br_f m0 (nm_e ?_)⟩⟩⟩⟩⟩⟩)
        refine br_f z0 (br_t z1 ⟨hv, hv, hv, hv, hv, hv, br_f m0 ⟨?_, R⟩⟩)
        rw [eo, ep, zs_l16, zs_l8, zs_l8]
    · exact br_f z0 (br_f z1 (br_f z0 (br_f z1 ⟨rfl, R⟩)))
end
