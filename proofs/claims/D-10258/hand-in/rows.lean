section
/-! ===== ints as sets of bits, words as families ===== -/
theorem ad_sl : ∀ n, n < 31 → ((nI n &&& 31).toBitVec.smod 32).toNat = n := by decide +kernel
theorem ad_and (a b : Nat) : nI a &&& nI b = nI (a &&& b) := by
  apply Int32.toBitVec_inj.1
  show BitVec.ofNat 32 a &&& BitVec.ofNat 32 b = BitVec.ofNat 32 (a &&& b)
  apply BitVec.eq_of_getLsbD_eq
  intro i hi
  simp [hi]
theorem ad_or (a b : Nat) : nI a ||| nI b = nI (a ||| b) := by
  apply Int32.toBitVec_inj.1
  show BitVec.ofNat 32 a ||| BitVec.ofNat 32 b = BitVec.ofNat 32 (a ||| b)
  apply BitVec.eq_of_getLsbD_eq
  intro i hi
  simp [hi]
theorem ad_xor (a b : Nat) : nI a ^^^ nI b = nI (a ^^^ b) := by
  apply Int32.toBitVec_inj.1
  show BitVec.ofNat 32 a ^^^ BitVec.ofNat 32 b = BitVec.ofNat 32 (a ^^^ b)
  apply BitVec.eq_of_getLsbD_eq
  intro i hi
  simp [hi]
/-- the set a without b -/
def ad_sd (a b : Nat) : Nat := a ^^^ (a &&& b)
theorem ad_sdb (a b i : Nat) : (ad_sd a b).testBit i = (a.testBit i && !b.testBit i) := by
  unfold ad_sd
  rw [Nat.testBit_xor, Nat.testBit_and]
  cases a.testBit i <;> cases b.testBit i <;> rfl
theorem ad_nand (a b : Nat) : nI a &&& (nI b ^^^ (-1)) = nI (ad_sd a b) := by
  apply Int32.toBitVec_inj.1
  rw [Int32.toBitVec_and, Int32.toBitVec_xor, show (-1 : Int32).toBitVec = BitVec.allOnes 32 from by decide]
  show BitVec.ofNat 32 a &&& (BitVec.ofNat 32 b ^^^ BitVec.allOnes 32) = BitVec.ofNat 32 (ad_sd a b)
  apply BitVec.eq_of_getLsbD_eq
  intro i hi
  rw [BitVec.getLsbD_and, BitVec.getLsbD_xor, BitVec.getLsbD_allOnes, BitVec.getLsbD_ofNat, BitVec.getLsbD_ofNat, BitVec.getLsbD_ofNat, ad_sdb]
  simp [hi]
theorem ad_lt8 {x : Nat} (h : ∀ i, x.testBit i = true → i < 8) : x < 256 := by
  have := Nat.lt_pow_two_of_testBit (n := 8) x (fun i hi => by
    cases e : x.testBit i
    · rfl
    · have := h i e
      omega)
  exact this
theorem ad_b8 {x i : Nat} (hx : x < 256) (h : x.testBit i = true) : i < 8 := by
  rcases Nat.lt_or_ge i 8 with z | z
  · exact z
  · have h2 : 2 ^ 8 ≤ 2 ^ i := Nat.pow_le_pow_right (by decide) z
    rw [Nat.testBit_lt_two_pow (by omega)] at h
    exact absurd h (by decide)
theorem ad_sd8 {a b : Nat} (h : a < 256) : ad_sd a b < 256 := ad_lt8 (fun i hi => by
  rw [ad_sdb] at hi
  cases e : a.testBit i
  · rw [e] at hi; exact absurd hi (by simp)
  · exact ad_b8 h e)
theorem ad_or8 {a b : Nat} (ha : a < 256) (hb : b < 256) : a ||| b < 256 := Nat.or_lt_two_pow (n := 8) ha hb
theorem ad_and8 {a : Nat} (b : Nat) (ha : a < 256) : a &&& b < 256 := Nat.lt_of_le_of_lt Nat.and_le_left ha
theorem ad_xor8 {a b : Nat} (ha : a < 256) (hb : b < 256) : a ^^^ b < 256 := Nat.xor_lt_two_pow (n := 8) ha hb
theorem ad_p8 {a : Nat} (h : a < 8) : 2 ^ a < 256 := by
  have := Nat.pow_lt_pow_right (show 1 < 2 by decide) h
  omega
theorem ad_pb {a i : Nat} : (2 ^ a).testBit i = decide (a = i) := Nat.testBit_two_pow
theorem ad_1s : ∀ a, a < 8 → (1 : Int32) <<< (nI a &&& 31) = nI (2 ^ a) := by decide +kernel
theorem ad_sh : ∀ x, x < 256 → (nI x).toInt16.toInt32 = nI x := by decide +kernel
theorem ad_s6 {s : Nat} (h : s < 2 ^ 31) : nI s >>> ((6 : Int32) &&& 31) = nI (s / 64) := pk_shrN h _ 6 (by decide)
theorem ad_4 (a w : Nat) : 4 * nI a + nI w = nI (4 * a + w) := by rw [show (4 : Int32) = nI 4 from rfl, pk_mul, nI_add]
theorem ad_tb {s a : Nat} (hs : s < 256) (ha : a < 8) : ((nI s >>> (nI a &&& 31)) &&& 1) = 0 ↔ s.testBit a = false := by
  have hd : s / 2 ^ a ≤ s := Nat.div_le_self _ _
  rw [pk_shrN (by omega) (nI a &&& 31) a (ad_sl a (by omega))]
  show nI (s / 2 ^ a) &&& nI 1 = 0 ↔ _
  rw [ad_and, Nat.and_one_is_mod, ← nI_0, nI_eq (by omega) (by omega), Nat.testBit_eq_decide_div_mod_eq, decide_eq_false_iff_not]
  generalize s / 2 ^ a = z
  omega
theorem ad_tb1 {s a : Nat} (hs : s < 256) (ha : a < 8) : ((nI s >>> (nI a &&& 31)) &&& 1) = 1 ↔ s.testBit a = true := by
  have hd : s / 2 ^ a ≤ s := Nat.div_le_self _ _
  rw [pk_shrN (by omega) (nI a &&& 31) a (ad_sl a (by omega))]
  show nI (s / 2 ^ a) &&& nI 1 = nI 1 ↔ _
  rw [ad_and, Nat.and_one_is_mod, nI_eq (by omega) (by omega), Nat.testBit_eq_decide_div_mod_eq, decide_eq_true_eq]
theorem ad_z {a : Nat} (h : a < 2 ^ 31) : nI a = 0 ↔ a = 0 := by
  rw [← nI_0, nI_eq h (by omega)]
theorem ad_ext {a b : Nat} (h : ∀ i, a.testBit i = true ↔ b.testBit i = true) : a = b := Nat.eq_of_testBit_eq (fun i => by
  have := h i
  revert this
  cases a.testBit i <;> cases b.testBit i <;> simp)
theorem ad_b0 (i : Nat) : ¬ (0 : Nat).testBit i = true := by rw [Nat.zero_testBit]; decide
theorem ad_ne0 {a : Nat} (h : a ≠ 0) : ∃ i, a.testBit i = true := Nat.exists_testBit_of_ne_zero h
/-! words -/
def ad_lb (x : Int64) (j : Nat) : Bool := x.toBitVec.getLsbD j
theorem ad_lx {x y : Int64} (h : ∀ j, j < 64 → ad_lb x j = ad_lb y j) : x = y := Int64.toBitVec_inj.mp (BitVec.eq_of_getLsbD_eq (fun i hi => h i hi))
theorem ad_lo (x y : Int64) (i : Nat) : ad_lb (x ||| y) i = (ad_lb x i || ad_lb y i) := by unfold ad_lb; rw [Int64.toBitVec_or, BitVec.getLsbD_or]
theorem ad_la (x y : Int64) (i : Nat) : ad_lb (x &&& y) i = (ad_lb x i && ad_lb y i) := by unfold ad_lb; rw [Int64.toBitVec_and, BitVec.getLsbD_and]
theorem ad_ln (x : Int64) {i : Nat} (hi : i < 64) : ad_lb (x ^^^ (-1)) i = !ad_lb x i := by
  have ha : (-1 : Int64).toBitVec = BitVec.allOnes 64 := by decide
  unfold ad_lb
  rw [Int64.toBitVec_xor, ha, BitVec.getLsbD_xor, BitVec.getLsbD_allOnes]
  simp [hi]
theorem ad_l0 (i : Nat) : ad_lb 0 i = false := BitVec.getLsbD_zero
theorem ad_lm {i : Nat} (hi : i < 64) : ad_lb (-1) i = true := by
  have ha : (-1 : Int64).toBitVec = BitVec.allOnes 64 := by decide
  unfold ad_lb
  rw [ha, BitVec.getLsbD_allOnes]
  simp [hi]
theorem ad_us (x : Int64) {s : UInt64} {k : Nat} (hk : k < 64) (hs : s.toNat = k) (j : Nat) : ad_lb (x.toUInt64 >>> s).toInt64 j = ad_lb x (k + j) := by
  have e : (x.toUInt64 >>> s).toInt64.toBitVec = x.toBitVec >>> k := by
    apply BitVec.eq_of_toNat_eq
    show (x.toUInt64 >>> s).toNat = _
    rw [UInt64.toNat_shiftRight, hs, Nat.mod_eq_of_lt hk, BitVec.toNat_ushiftRight]
    rfl
  unfold ad_lb
  rw [e, BitVec.getLsbD_ushiftRight]
theorem ad_lz (x : Int64) : (x &&& 1) = 0 ↔ ad_lb x 0 = false := by
  unfold ad_lb
  rw [← Int64.toBitVec_inj, Int64.toBitVec_and]
  show x.toBitVec &&& 1#64 = 0#64 ↔ _
  constructor
  · intro h
    have t := congrArg (fun x => x.getLsbD 0) h
    simpa using t
  · intro h
    apply BitVec.eq_of_getLsbD_eq
    intro i hi
    cases i with
    | zero => rw [BitVec.getLsbD_and, h]; simp
    | succ i => simp
theorem ad_cu : ∀ s, s < 256 → ((nI s &&& 63).toInt64.toUInt64 &&& Int64.toUInt64 63).toNat = s % 64 := by decide +kernel
theorem ad_cs : ∀ s, s < 256 → ((1 : Int64) <<< ((nI s &&& 63).toInt64 &&& 63)).toBitVec = BitVec.twoPow 64 (s % 64) := by decide +kernel
theorem ad_ca : ∀ a, a < 6 → (((1 : Int32) <<< (nI a &&& 31)).toInt64.toUInt64 &&& Int64.toUInt64 63).toNat = 2 ^ a := by decide +kernel
/-- a set's bit in a word is tested -/
theorem ad_lt (x : Int64) {s : Nat} (hs : s < 256) : ((x.toUInt64 >>> ((nI s &&& 63).toInt64.toUInt64 &&& Int64.toUInt64 63)).toInt64 &&& 1) = 0 ↔ ad_lb x (s % 64) = false := by
  rw [ad_lz, ad_us x (k := s % 64) (by omega) (ad_cu s hs), Nat.add_zero]
/-- a set's bit -/
theorem ad_l1 {s : Nat} (hs : s < 256) (j : Nat) : ad_lb ((1 : Int64) <<< ((nI s &&& 63).toInt64 &&& 63)) j = decide (s % 64 = j) := by
  unfold ad_lb
  rw [ad_cs s hs, BitVec.getLsbD_twoPow]
  simp [show s % 64 < 64 by omega]
/-! how many -/
def ad_pc (s : Nat) : Nat → Nat
  | 0 => 0
  | n + 1 => ad_pc s n + (if s.testBit n = true then 1 else 0)
theorem ad_pcn (s : Nat) : ∀ n, ad_pc s n ≤ n
  | 0 => Nat.le_refl 0
  | n + 1 => by
    have := ad_pcn s n
    unfold ad_pc
    split <;> omega
theorem ad_pcm {s t : Nat} (h : ∀ a, s.testBit a = true → t.testBit a = true) : ∀ n, ad_pc s n ≤ ad_pc t n
  | 0 => Nat.le_refl 0
  | n + 1 => by
    have ih := ad_pcm h n
    have hn := h n
    unfold ad_pc
    by_cases e : s.testBit n = true
    · rw [if_pos e, if_pos (hn e)]; omega
    · rw [if_neg e]; split <;> omega
theorem ad_pcl {s t b : Nat} (h : ∀ a, s.testBit a = true → t.testBit a = true) (hb : t.testBit b = true) (hs : ¬ s.testBit b = true) : ∀ n, b < n → ad_pc s n < ad_pc t n
  | 0, z => absurd z (by omega)
  | n + 1, z => by
    have hn := h n
    unfold ad_pc
    by_cases e : b = n
    · subst e
      have := ad_pcm h b
      rw [if_neg hs, if_pos hb]; omega
    · have ih := ad_pcl h hb hs n (by omega)
      by_cases e : s.testBit n = true
      · rw [if_pos e, if_pos (hn e)]; omega
      · rw [if_neg e]; split <;> omega
theorem ad_pcs {l p : Nat} (h : ∀ a, p.testBit a = true → l.testBit a = true) : ∀ n, ad_pc (ad_sd l p) n + ad_pc p n = ad_pc l n
  | 0 => rfl
  | n + 1 => by
    have ih := ad_pcs h n
    have hn := h n
    unfold ad_pc
    rw [ad_sdb]
    by_cases e : p.testBit n = true
    · rw [hn e, e]
      simp
      omega
    · rw [Bool.not_eq_true] at e
      rw [e]
      cases l.testBit n
      · simp; omega
      · simp; omega
theorem ad_pc0 {s : Nat} (h8 : s < 256) (h : s ≠ 0) : 0 < ad_pc s 8 := by
  obtain ⟨i, hi⟩ := ad_ne0 h
  have := ad_pcl (s := 0) (t := s) (b := i) (fun a ha => absurd ha (ad_b0 a)) hi (ad_b0 i) 8 (ad_b8 h8 hi)
  omega
/-- a subset isn't greater as a number -/
theorem ad_le {s t : Nat} (h : ∀ a, s.testBit a = true → t.testBit a = true) : s ≤ t := by
  have e : s &&& t = s := ad_ext (fun i => by
    rw [Nat.testBit_and]
    have := h i
    revert this
    cases s.testBit i <;> cases t.testBit i <;> simp)
  rw [← e]
  exact Nat.and_le_right
/-- a family of sets below N that isn't empty has a greatest number -/
theorem ad_top {Q : Nat → Prop} : ∀ N, (∃ s, s < N ∧ Q s) → ∃ s, s < N ∧ Q s ∧ ∀ t, t < N → Q t → t ≤ s
  | 0, h => absurd h.choose_spec.1 (by omega)
  | N + 1, h => by
    by_cases e : Q N
    · exact ⟨N, by omega, e, fun t ht _ => by omega⟩
    · obtain ⟨s, hs, hq⟩ := h
      have hsN : s ≠ N := fun z => e (z ▸ hq)
      obtain ⟨s', h1, h2, h3⟩ := ad_top N ⟨s, by omega, hq⟩
      refine ⟨s', by omega, h2, fun t ht hq' => ?_⟩
      have htN : t ≠ N := fun z => e (z ▸ hq')
      exact h3 t (by omega) hq'
end
section
/-! ===== the plain law: arguments P, attacks A, sets as numbers ===== -/
theorem ad_ob {a b i : Nat} : (a ||| b).testBit i = true ↔ a.testBit i = true ∨ b.testBit i = true := by
  rw [Nat.testBit_or, Bool.or_eq_true]
theorem ad_ab {a b i : Nat} : (a &&& b).testBit i = true ↔ a.testBit i = true ∧ b.testBit i = true := by
  rw [Nat.testBit_and, Bool.and_eq_true]
theorem ad_db {a b i : Nat} : (ad_sd a b).testBit i = true ↔ a.testBit i = true ∧ ¬ b.testBit i = true := by
  rw [ad_sdb]
  cases a.testBit i <;> cases b.testBit i <;> simp
theorem ad_2b {a i : Nat} : (2 ^ a).testBit i = true ↔ a = i := by
  rw [ad_pb, decide_eq_true_eq]
def ad_sub (s t : Nat) : Prop := ∀ a, s.testBit a = true → t.testBit a = true
theorem ad_seq {s t : Nat} (h : ad_sub s t) (h2 : ad_sub t s) : s = t := ad_ext (fun i => ⟨h i, h2 i⟩)
theorem ad_and0 {a b : Nat} : a &&& b = 0 ↔ ∀ i, a.testBit i = true → ¬ b.testBit i = true := by
  constructor
  · intro h i ha hb
    have : (a &&& b).testBit i = true := ad_ab.mpr ⟨ha, hb⟩
    rw [h] at this
    exact ad_b0 i this
  · intro h
    exact ad_ext (fun i => ⟨fun z => absurd (ad_ab.mp z).2 (h i (ad_ab.mp z).1), fun z => absurd z (ad_b0 i)⟩)
theorem ad_sd0 {a b : Nat} : ad_sd a b = 0 ↔ ad_sub a b := by
  constructor
  · intro h i ha
    cases hb : b.testBit i
    · have : (ad_sd a b).testBit i = true := ad_db.mpr ⟨ha, by rw [hb]; decide⟩
      rw [h] at this
      exact absurd this (ad_b0 i)
    · rfl
  · intro h
    exact ad_ext (fun i => ⟨fun z => absurd (h i (ad_db.mp z).1) (ad_db.mp z).2, fun z => absurd z (ad_b0 i)⟩)
def ad_OK (P : Nat) (A : Nat → Nat) : Prop := P < 256 ∧ ∀ a b, (A a).testBit b = true → P.testBit a = true ∧ P.testBit b = true
/-- whom a set attacks -/
def ad_af (A : Nat → Nat) (s : Nat) : Nat → Nat
  | 0 => 0
  | n + 1 => if s.testBit n = true then ad_af A s n ||| A n else ad_af A s n
def ad_AF (A : Nat → Nat) (s : Nat) : Nat := ad_af A s 8
theorem ad_afb {A : Nat → Nat} {s b : Nat} : ∀ n, (ad_af A s n).testBit b = true ↔ ∃ a, a < n ∧ s.testBit a = true ∧ (A a).testBit b = true
  | 0 => ⟨fun z => absurd z (ad_b0 b), fun ⟨a, h, _⟩ => absurd h (by omega)⟩
  | n + 1 => by
    have ih := ad_afb (A := A) (s := s) (b := b) n
    unfold ad_af
    by_cases e : s.testBit n = true
    · rw [if_pos e, ad_ob, ih]
      constructor
      · rintro (⟨a, h1, h2⟩ | h)
        · exact ⟨a, by omega, h2⟩
        · exact ⟨n, by omega, e, h⟩
      · rintro ⟨a, h1, h2, h3⟩
        by_cases z : a = n
        · exact Or.inr (z ▸ h3)
        · exact Or.inl ⟨a, by omega, h2, h3⟩
    · rw [if_neg e, ih]
      constructor
      · rintro ⟨a, h1, h2⟩
        exact ⟨a, by omega, h2⟩
      · rintro ⟨a, h1, h2, h3⟩
        have : a ≠ n := fun z => e (z ▸ h2)
        exact ⟨a, by omega, h2, h3⟩
theorem ad_AFb {P : Nat} {A : Nat → Nat} (ok : ad_OK P A) {s b : Nat} : (ad_AF A s).testBit b = true ↔ ∃ a, s.testBit a = true ∧ (A a).testBit b = true := by
  unfold ad_AF
  rw [ad_afb]
  constructor
  · rintro ⟨a, _, h⟩
    exact ⟨a, h⟩
  · rintro ⟨a, h1, h2⟩
    exact ⟨a, ad_b8 ok.1 (ok.2 a b h2).1, h1, h2⟩
theorem ad_A8 {P : Nat} {A : Nat → Nat} (ok : ad_OK P A) (a : Nat) : A a < 256 := ad_lt8 (fun b hb => ad_b8 ok.1 (ok.2 a b hb).2)
theorem ad_af8 {P : Nat} {A : Nat → Nat} (ok : ad_OK P A) (s : Nat) (n : Nat) : ad_af A s n < 256 := ad_lt8 (fun b hb => by
  obtain ⟨a, _, _, h⟩ := (ad_afb n).mp hb
  exact ad_b8 ok.1 (ok.2 a b h).2)
theorem ad_AF8 {P : Nat} {A : Nat → Nat} (ok : ad_OK P A) (s : Nat) : ad_AF A s < 256 := ad_af8 ok s 8
/-- s defends a -/
def ad_dn (A : Nat → Nat) (s a : Nat) : Prop := ∀ x, (A x).testBit a = true → ∃ y, s.testBit y = true ∧ (A y).testBit x = true
def ad_df (P x : Nat) (B : Nat → Nat) : Nat → Nat
  | 0 => 0
  | n + 1 => if P.testBit n = true ∧ ad_sd (B n) x = 0 then ad_df P x B n ||| 2 ^ n else ad_df P x B n
theorem ad_dfb {P x a : Nat} {B : Nat → Nat} : ∀ n, (ad_df P x B n).testBit a = true ↔ a < n ∧ P.testBit a = true ∧ ad_sd (B a) x = 0
  | 0 => ⟨fun z => absurd z (ad_b0 a), fun ⟨h, _⟩ => absurd h (by omega)⟩
  | n + 1 => by
    have ih := ad_dfb (P := P) (x := x) (a := a) (B := B) n
    unfold ad_df
    by_cases e : P.testBit n = true ∧ ad_sd (B n) x = 0
    · rw [if_pos e, ad_ob, ih, ad_2b]
      constructor
      · rintro (⟨h1, h2⟩ | h)
        · exact ⟨by omega, h2⟩
        · subst h; exact ⟨by omega, e⟩
      · rintro ⟨h1, h2⟩
        by_cases z : n = a
        · exact Or.inr z
        · exact Or.inl ⟨by omega, h2⟩
    · rw [if_neg e, ih]
      constructor
      · rintro ⟨h1, h2⟩
        exact ⟨by omega, h2⟩
      · rintro ⟨h1, h2⟩
        have : a ≠ n := fun z => e (z ▸ h2)
        exact ⟨by omega, h2⟩
/-- all that a set defends -/
def ad_D (P : Nat) (A B : Nat → Nat) (s : Nat) : Nat := ad_df P (ad_AF A s) B 8
def ad_BA (A B : Nat → Nat) : Prop := ∀ a b, (B b).testBit a = (A a).testBit b
theorem ad_df8 {P x : Nat} {B : Nat → Nat} (hP : P < 256) (n : Nat) : ad_df P x B n < 256 := ad_lt8 (fun a ha => ad_b8 hP ((ad_dfb n).mp ha).2.1)
theorem ad_D8 {P : Nat} {A B : Nat → Nat} (ok : ad_OK P A) (s : Nat) : ad_D P A B s < 256 := ad_df8 ok.1 8
theorem ad_Db {P : Nat} {A B : Nat → Nat} (ok : ad_OK P A) (ba : ad_BA A B) {s a : Nat} : (ad_D P A B s).testBit a = true ↔ P.testBit a = true ∧ ad_dn A s a := by
  unfold ad_D
  rw [ad_dfb, ad_sd0]
  constructor
  · rintro ⟨_, h2, h3⟩
    refine ⟨h2, fun x hx => ?_⟩
    exact (ad_AFb ok).mp (h3 x (by rw [ba]; exact hx))
  · rintro ⟨h1, h2⟩
    refine ⟨ad_b8 ok.1 h1, h1, fun x hx => ?_⟩
    rw [ba] at hx
    exact (ad_AFb ok).mpr (h2 x hx)
def ad_it (P : Nat) (A B : Nat → Nat) : Nat → Nat
  | 0 => 0
  | n + 1 => ad_D P A B (ad_it P A B n)
theorem ad_it8 {P : Nat} {A B : Nat → Nat} (ok : ad_OK P A) : ∀ n, ad_it P A B n < 256
  | 0 => by show 0 < 256; decide
  | n + 1 => ad_D8 ok _
theorem ad_Dm {P : Nat} {A B : Nat → Nat} (ok : ad_OK P A) (ba : ad_BA A B) {s t : Nat} (h : ad_sub s t) : ad_sub (ad_D P A B s) (ad_D P A B t) := by
  intro a ha
  rw [ad_Db ok ba] at ha ⊢
  refine ⟨ha.1, fun x hx => ?_⟩
  obtain ⟨y, h1, h2⟩ := ha.2 x hx
  exact ⟨y, h y h1, h2⟩
theorem ad_itm {P : Nat} {A B : Nat → Nat} (ok : ad_OK P A) (ba : ad_BA A B) : ∀ n, ad_sub (ad_it P A B n) (ad_it P A B (n + 1))
  | 0 => fun a ha => absurd ha (ad_b0 a)
  | n + 1 => ad_Dm ok ba (ad_itm ok ba n)
theorem ad_itk {P : Nat} {A B : Nat → Nat} (ok : ad_OK P A) (ba : ad_BA A B) (n : Nat) : ∀ k, ad_sub (ad_it P A B n) (ad_it P A B (n + k))
  | 0 => fun _ h => h
  | k + 1 => fun a h => ad_itm ok ba (n + k) a (ad_itk ok ba n k a h)
theorem ad_its {P : Nat} {A B : Nat → Nat} (ok : ad_OK P A) (ba : ad_BA A B) : ∀ n, ad_it P A B (n + 1) = ad_it P A B n ∨ n + 1 ≤ ad_pc (ad_it P A B (n + 1)) 8
  | 0 => by
    by_cases e : ad_it P A B 1 = 0
    · exact Or.inl e
    · have := ad_pc0 (ad_it8 ok 1) e
      exact Or.inr this
  | n + 1 => by
    by_cases e : ad_it P A B (n + 1 + 1) = ad_it P A B (n + 1)
    · exact Or.inl e
    · rcases ad_its ok ba n with h | h
      · exact absurd (congrArg (ad_D P A B) h) e
      · refine Or.inr ?_
        have hm := ad_itm ok ba (n + 1)
        have : ∃ b, (ad_it P A B (n + 1 + 1)).testBit b = true ∧ ¬ (ad_it P A B (n + 1)).testBit b = true := by
          apply Classical.byContradiction
          intro hn
          apply e
          refine ad_seq (fun a ha => ?_) hm
          apply Classical.byContradiction
          intro hb
          exact hn ⟨a, ha, hb⟩
        obtain ⟨b, h1, h2⟩ := this
        have := ad_pcl hm h1 h2 8 (ad_b8 (ad_it8 ok _) h1)
        omega
theorem ad_fix {P : Nat} {A B : Nat → Nat} (ok : ad_OK P A) (ba : ad_BA A B) : ad_D P A B (ad_it P A B 8) = ad_it P A B 8 := by
  rcases ad_its ok ba 8 with h | h
  · exact h
  · have := ad_pcn (ad_it P A B (8 + 1)) 8
    omega
/-! the senses -/
def ad_Cf (P : Nat) (A : Nat → Nat) (s : Nat) : Prop := ad_sub s P ∧ ∀ a b, s.testBit a = true → s.testBit b = true → ¬ (A a).testBit b = true
def ad_Ad (P : Nat) (A : Nat → Nat) (s : Nat) : Prop := ad_Cf P A s ∧ ∀ a, s.testBit a = true → ad_dn A s a
def ad_Co (P : Nat) (A : Nat → Nat) (s : Nat) : Prop := ad_Ad P A s ∧ ∀ a, P.testBit a = true → ad_dn A s a → s.testBit a = true
def ad_St (P : Nat) (A : Nat → Nat) (s : Nat) : Prop := ad_Cf P A s ∧ ∀ a, P.testBit a = true → s.testBit a = true ∨ ∃ y, s.testBit y = true ∧ (A y).testBit a = true
/-- the greatest sets of a family -/
def ad_Mx (Q : Nat → Prop) (s : Nat) : Prop := Q s ∧ ∀ t, t < 256 → Q t → ad_sub s t → t = s
def ad_re (A : Nat → Nat) (s : Nat) : Nat := s ||| ad_AF A s
/-- the sets of a family whose reach is greatest -/
def ad_Wd (A : Nat → Nat) (Q : Nat → Prop) (s : Nat) : Prop := Q s ∧ ∀ t, t < 256 → Q t → ad_sub (ad_re A s) (ad_re A t) → ad_re A t = ad_re A s
theorem ad_cf0 (P : Nat) (A : Nat → Nat) : ad_Cf P A 0 := ⟨fun a h => absurd h (ad_b0 a), fun a _ h => absurd h (ad_b0 a)⟩
theorem ad_ad0 (P : Nat) (A : Nat → Nat) : ad_Ad P A 0 := ⟨ad_cf0 P A, fun a h => absurd h (ad_b0 a)⟩
theorem ad_itc {P : Nat} {A B : Nat → Nat} (ok : ad_OK P A) (ba : ad_BA A B) : ∀ n, ad_Cf P A (ad_it P A B n)
  | 0 => ad_cf0 P A
  | n + 1 => by
    have ih := ad_itc ok ba n
    refine ⟨fun a ha => ((ad_Db ok ba).mp ha).1, fun a b ha hb hab => ?_⟩
    obtain ⟨y, h1, h2⟩ := ((ad_Db ok ba).mp hb).2 a hab
    obtain ⟨z, h3, h4⟩ := ((ad_Db ok ba).mp ha).2 y h2
    exact ih.2 z y h3 h1 h4
theorem ad_gco {P : Nat} {A B : Nat → Nat} (ok : ad_OK P A) (ba : ad_BA A B) : ad_Co P A (ad_it P A B 8) := by
  have hf := ad_fix ok ba
  refine ⟨⟨ad_itc ok ba 8, fun a ha => ?_⟩, fun a h1 h2 => ?_⟩
  · rw [← hf] at ha
    exact ((ad_Db ok ba).mp ha).2
  · rw [← hf]
    exact (ad_Db ok ba).mpr ⟨h1, h2⟩
theorem ad_mx {Q : Nat → Prop} (h : ∃ s, s < 256 ∧ Q s) : ∃ s, s < 256 ∧ ad_Mx Q s := by
  obtain ⟨s, h1, h2, h3⟩ := ad_top 256 h
  refine ⟨s, h1, h2, fun t ht hq hs => ?_⟩
  have a := h3 t ht hq
  have b := ad_le hs
  omega
theorem ad_s8 {P s : Nat} (hP : P < 256) (h : ad_sub s P) : s < 256 := ad_lt8 (fun i hi => ad_b8 hP (h i hi))
theorem ad_sta {P : Nat} {A : Nat → Nat} (ok : ad_OK P A) {s : Nat} (h : ad_St P A s) : ad_Ad P A s := by
  refine ⟨h.1, fun a ha x hx => ?_⟩
  rcases h.2 x (ok.2 x a hx).1 with z | z
  · exact absurd hx (h.1.2 x a z ha)
  · exact z
theorem ad_sto {P : Nat} {A : Nat → Nat} (ok : ad_OK P A) {s : Nat} (h : ad_St P A s) : ad_Co P A s := by
  refine ⟨ad_sta ok h, fun a ha hd => ?_⟩
  rcases h.2 a ha with z | ⟨y, h1, h2⟩
  · exact z
  · obtain ⟨z, h3, h4⟩ := hd y h2
    exact absurd h4 (h.1.2 z y h3 h1)
theorem ad_stm {P : Nat} {A : Nat → Nat} {s t : Nat} (h : ad_St P A s) (ht : ad_Cf P A t) (hs : ad_sub s t) : t = s := by
  refine ad_seq (fun b hb => ?_) hs
  rcases h.2 b (ht.1 b hb) with z | ⟨y, h1, h2⟩
  · exact z
  · exact absurd h2 (ht.2 y b (hs y h1) hb)
theorem ad_reb {P : Nat} {A : Nat → Nat} (ok : ad_OK P A) {s a : Nat} : (ad_re A s).testBit a = true ↔ s.testBit a = true ∨ ∃ y, s.testBit y = true ∧ (A y).testBit a = true := by
  unfold ad_re
  rw [ad_ob, ad_AFb ok]
theorem ad_rep {P : Nat} {A : Nat → Nat} (ok : ad_OK P A) {s : Nat} (h : ad_sub s P) : ad_sub (ad_re A s) P := by
  intro a ha
  rcases (ad_reb ok).mp ha with z | ⟨y, _, z⟩
  · exact h a z
  · exact (ok.2 y a z).2
theorem ad_rst {P : Nat} {A : Nat → Nat} (ok : ad_OK P A) {s : Nat} (h : ad_Cf P A s) : ad_St P A s ↔ ad_re A s = P := by
  constructor
  · intro hs
    exact ad_seq (ad_rep ok h.1) (fun a ha => (ad_reb ok).mpr (hs.2 a ha))
  · intro e
    refine ⟨h, fun a ha => (ad_reb ok).mp ?_⟩
    rw [e]
    exact ha
theorem ad_wst {P : Nat} {A : Nat → Nat} (ok : ad_OK P A) {Q : Nat → Prop} (hQ : ∀ t, Q t → ad_Cf P A t) {s : Nat} (h : ad_St P A s) (hq : Q s) : ad_Wd A Q s := by
  have e := (ad_rst ok h.1).mp h
  refine ⟨hq, fun t _ ht hs => ?_⟩
  rw [e] at hs ⊢
  exact ad_seq (ad_rep ok (hQ t ht).1) hs
theorem ad_wiff {P : Nat} {A : Nat → Nat} (ok : ad_OK P A) {Q : Nat → Prop} (hQ : ∀ t, Q t → ad_Cf P A t) (hS : ∀ t, ad_St P A t → Q t) {s : Nat} (h8 : s < 256) (h : ad_St P A s) (t : Nat) : ad_Wd A Q t ↔ ad_St P A t := by
  constructor
  · intro hw
    have e := (ad_rst ok h.1).mp h
    have := hw.2 s h8 (hS s h) (by rw [e]; exact ad_rep ok (hQ t hw.1).1)
    exact (ad_rst ok (hQ t hw.1)).mpr (by rw [← this, e])
  · intro ht
    exact ad_wst ok hQ ht (hS t ht)
theorem ad_pco {P : Nat} {A : Nat → Nat} (ok : ad_OK P A) {s : Nat} (h : ad_Mx (ad_Ad P A) s) : ad_Co P A s := by
  refine ⟨h.1, fun a ha hd => ?_⟩
  have hn : ∀ y, s.testBit y = true → ¬ (A y).testBit a = true := by
    intro y h1 h2
    obtain ⟨z, h3, h4⟩ := hd y h2
    exact h.1.1.2 z y h3 h1 h4
  have ho : ∀ b, s.testBit b = true → ¬ (A a).testBit b = true := by
    intro b h1 h2
    obtain ⟨y, h3, h4⟩ := h.1.2 b h1 a h2
    exact hn y h3 h4
  have hsub : ad_sub s (s ||| 2 ^ a) := fun i hi => ad_ob.mpr (Or.inl hi)
  have hP : ad_sub (s ||| 2 ^ a) P := by
    intro i hi
    rcases ad_ob.mp hi with z | z
    · exact h.1.1.1 i z
    · rw [ad_2b] at z; rw [← z]; exact ha
  have ht : ad_Ad P A (s ||| 2 ^ a) := by
    refine ⟨⟨hP, fun b c hb hc hbc => ?_⟩, fun b hb x hx => ?_⟩
    · rcases ad_ob.mp hb with z | z
      · rcases ad_ob.mp hc with y | y
        · exact h.1.1.2 b c z y hbc
        · rw [ad_2b] at y; rw [← y] at hbc; exact hn b z hbc
      · rw [ad_2b] at z
        rw [← z] at hbc
        rcases ad_ob.mp hc with y | y
        · exact ho c y hbc
        · rw [ad_2b] at y
          rw [← y] at hbc
          obtain ⟨w, h3, h4⟩ := hd a hbc
          exact hn w h3 h4
    · have : ∃ y, s.testBit y = true ∧ (A y).testBit x = true := by
        rcases ad_ob.mp hb with z | z
        · exact h.1.2 b z x hx
        · rw [ad_2b] at z; rw [← z] at hx; exact hd x hx
      obtain ⟨y, h1, h2⟩ := this
      exact ⟨y, hsub y h1, h2⟩
  have e := h.2 _ (ad_s8 ok.1 hP) ht hsub
  rw [← e]
  exact ad_ob.mpr (Or.inr (ad_2b.mpr rfl))
end
section
/-! ===== the plain law: groups and their parts ===== -/
/-- what one comes to from a within g, by ways through arguments below c -/
def ad_w (A : Nat → Nat) (g : Nat) : Nat → Nat → Nat
  | 0, a => if g.testBit a = true then (A a &&& g) ||| 2 ^ a else 0
  | c + 1, a => if (ad_w A g c a).testBit c = true then ad_w A g c a ||| ad_w A g c c else ad_w A g c a
theorem ad_wb {A : Nat → Nat} {g c a b : Nat} : (ad_w A g (c + 1) a).testBit b = true ↔ (ad_w A g c a).testBit b = true ∨ ((ad_w A g c a).testBit c = true ∧ (ad_w A g c c).testBit b = true) := by
  show (if (ad_w A g c a).testBit c = true then ad_w A g c a ||| ad_w A g c c else ad_w A g c a).testBit b = true ↔ _
  by_cases e : (ad_w A g c a).testBit c = true
  · rw [if_pos e, ad_ob]
    exact ⟨fun z => z.elim Or.inl (fun y => Or.inr ⟨e, y⟩), fun z => z.elim Or.inl (fun y => Or.inr y.2)⟩
  · rw [if_neg e]
    exact ⟨Or.inl, fun z => z.elim id (fun y => absurd y.1 e)⟩
theorem ad_w0 {A : Nat → Nat} {g a b : Nat} : (ad_w A g 0 a).testBit b = true ↔ g.testBit a = true ∧ (((A a).testBit b = true ∧ g.testBit b = true) ∨ a = b) := by
  show (if g.testBit a = true then (A a &&& g) ||| 2 ^ a else 0).testBit b = true ↔ _
  by_cases e : g.testBit a = true
  · rw [if_pos e, ad_ob, ad_ab, ad_2b]
    exact ⟨fun z => ⟨e, z⟩, fun z => z.2⟩
  · rw [if_neg e]
    exact ⟨fun z => absurd z (ad_b0 b), fun z => absurd z.1 e⟩
theorem ad_wg {A : Nat → Nat} {g : Nat} : ∀ c a b, (ad_w A g c a).testBit b = true → g.testBit a = true ∧ g.testBit b = true
  | 0, a, b, h => by
    obtain ⟨h1, h2⟩ := ad_w0.mp h
    exact ⟨h1, h2.elim (fun z => z.2) (fun z => z ▸ h1)⟩
  | c + 1, a, b, h => by
    rcases ad_wb.mp h with z | ⟨z, y⟩
    · exact ad_wg c a b z
    · exact ⟨(ad_wg c a c z).1, (ad_wg c c b y).2⟩
theorem ad_wm {A : Nat → Nat} {g : Nat} : ∀ c a b, (ad_w A g 0 a).testBit b = true → (ad_w A g c a).testBit b = true
  | 0, _, _, h => h
  | c + 1, a, b, h => ad_wb.mpr (Or.inl (ad_wm c a b h))
theorem ad_wt {A : Nat → Nat} {g : Nat} : ∀ c x a b, x < c → (ad_w A g c a).testBit x = true → (ad_w A g c x).testBit b = true → (ad_w A g c a).testBit b = true
  | 0, x, _, _, hx, _, _ => absurd hx (by omega)
  | c + 1, x, a, b, hx, h1, h2 => by
    have ih := ad_wt (A := A) (g := g) c
    rw [ad_wb] at h1 h2 ⊢
    by_cases e : x = c
    · subst e
      have g1 : (ad_w A g x a).testBit x = true := h1.elim id (fun z => z.1)
      have g2 : (ad_w A g x x).testBit b = true := h2.elim id (fun z => z.2)
      exact Or.inr ⟨g1, g2⟩
    · have hx' : x < c := by omega
      rcases h1 with z | ⟨z, z2⟩
      · rcases h2 with y | ⟨y, y2⟩
        · exact Or.inl (ih x a b hx' z y)
        · exact Or.inr ⟨ih x a c hx' z y, y2⟩
      · rcases h2 with y | ⟨y, y2⟩
        · exact Or.inr ⟨z, ih x c b hx' z2 y⟩
        · exact Or.inr ⟨z, y2⟩
theorem ad_w8 {A : Nat → Nat} {g : Nat} (hg : g < 256) (c a : Nat) : ad_w A g c a < 256 := ad_lt8 (fun b hb => ad_b8 hg (ad_wg c a b hb).2)
/-- a comes to b within g -/
def ad_R (A : Nat → Nat) (g a b : Nat) : Prop := (ad_w A g 8 a).testBit b = true
theorem ad_Rr {A : Nat → Nat} {g a : Nat} (h : g.testBit a = true) : ad_R A g a a := ad_wm 8 a a (ad_w0.mpr ⟨h, Or.inr rfl⟩)
theorem ad_Rt {A : Nat → Nat} {g a b c : Nat} (hg : g < 256) (h1 : ad_R A g a b) (h2 : ad_R A g b c) : ad_R A g a c := ad_wt 8 b a c (ad_b8 hg (ad_wg 8 a b h1).2) h1 h2
theorem ad_Ra {A : Nat → Nat} {g a b : Nat} (ha : g.testBit a = true) (hb : g.testBit b = true) (h : (A a).testBit b = true) : ad_R A g a b := ad_wm 8 a b (ad_w0.mpr ⟨ha, Or.inl ⟨h, hb⟩⟩)
theorem ad_Rg {A : Nat → Nat} {g a b : Nat} (h : ad_R A g a b) : g.testBit a = true ∧ g.testBit b = true := ad_wg 8 a b h
/-- the part of l within g -/
def ad_pt (A : Nat → Nat) (g l : Nat) : Nat → Nat
  | 0 => 0
  | n + 1 => if g.testBit n = true ∧ (ad_w A g 8 l).testBit n = true ∧ (ad_w A g 8 n).testBit l = true then ad_pt A g l n ||| 2 ^ n else ad_pt A g l n
def ad_PT (A : Nat → Nat) (g l : Nat) : Nat := ad_pt A g l 8
theorem ad_ptb {A : Nat → Nat} {g l b : Nat} : ∀ n, (ad_pt A g l n).testBit b = true ↔ b < n ∧ g.testBit b = true ∧ (ad_w A g 8 l).testBit b = true ∧ (ad_w A g 8 b).testBit l = true
  | 0 => ⟨fun z => absurd z (ad_b0 b), fun ⟨h, _⟩ => absurd h (by omega)⟩
  | n + 1 => by
    have ih := ad_ptb (A := A) (g := g) (l := l) (b := b) n
    unfold ad_pt
    by_cases e : g.testBit n = true ∧ (ad_w A g 8 l).testBit n = true ∧ (ad_w A g 8 n).testBit l = true
    · rw [if_pos e, ad_ob, ih, ad_2b]
      constructor
      · rintro (⟨h1, h2⟩ | h)
        · exact ⟨by omega, h2⟩
        · subst h; exact ⟨by omega, e⟩
      · rintro ⟨h1, h2⟩
        by_cases z : n = b
        · exact Or.inr z
        · exact Or.inl ⟨by omega, h2⟩
    · rw [if_neg e, ih]
      constructor
      · rintro ⟨h1, h2⟩
        exact ⟨by omega, h2⟩
      · rintro ⟨h1, h2⟩
        have : b ≠ n := fun z => e (z ▸ h2)
        exact ⟨by omega, h2⟩
theorem ad_PTb {A : Nat → Nat} {g l b : Nat} (hg : g < 256) : (ad_PT A g l).testBit b = true ↔ ad_R A g l b ∧ ad_R A g b l := by
  unfold ad_PT
  rw [ad_ptb]
  exact ⟨fun z => z.2.2, fun z => ⟨ad_b8 hg (ad_Rg z.1).2, (ad_Rg z.1).2, z⟩⟩
theorem ad_pt8 {A : Nat → Nat} {g l : Nat} (hg : g < 256) (n : Nat) : ad_pt A g l n < 256 := ad_lt8 (fun b hb => ad_b8 hg ((ad_ptb n).mp hb).2.1)
theorem ad_PT8 {A : Nat → Nat} {g l : Nat} (hg : g < 256) : ad_PT A g l < 256 := ad_pt8 hg 8
/-- a group that doesn't fall apart -/
def ad_one (A : Nat → Nat) (g : Nat) : Prop := ∀ a b, g.testBit a = true → g.testBit b = true → ad_R A g a b
theorem ad_one1 {A : Nat → Nat} {g l : Nat} (hg : g < 256) (hl : g.testBit l = true) : ad_PT A g l = g ↔ ad_one A g := by
  constructor
  · intro e a b ha hb
    rw [← e] at ha hb
    exact ad_Rt hg ((ad_PTb hg).mp ha).2 ((ad_PTb hg).mp hb).1
  · intro h
    exact ad_seq (fun b hb => (ad_Rg ((ad_PTb hg).mp hb).1).2) (fun b hb => (ad_PTb hg).mpr ⟨h l b hl hb, h b l hb hl⟩)
/-- no one in h attacks one in h -/
def ad_nf (A : Nat → Nat) (h : Nat) : Prop := ad_AF A h &&& h = 0
theorem ad_nfi {P : Nat} {A : Nat → Nat} (ok : ad_OK P A) {h : Nat} : ad_nf A h ↔ ∀ a b, h.testBit a = true → h.testBit b = true → ¬ (A a).testBit b = true := by
  unfold ad_nf
  rw [ad_and0]
  constructor
  · intro z a b ha hb hab
    exact z b ((ad_AFb ok).mpr ⟨a, ha, hab⟩) hb
  · intro z b hb hh
    obtain ⟨a, h1, h2⟩ := (ad_AFb ok).mp hb
    exact z a b h1 hh h2
def ad_nv (A : Nat → Nat) (h g : Nat) : Prop := ad_nf A h ∧ ∀ a, g.testBit a = true → ¬ h.testBit a = true → ¬ ad_nf A (h ||| 2 ^ a)
/-- the part of a, without what is attacked from outside of it -/
def ad_ps (A : Nat → Nat) (F g a : Nat) : Nat := ad_sd (ad_PT A g a) (ad_AF A (ad_sd (F &&& g) (ad_PT A g a)))
def ad_fit (A : Nat → Nat) (F : Nat) : Nat → Nat → Prop
  | 0, _ => False
  | n + 1, g => (ad_one A g → ad_nv A (F &&& g) g) ∧ (¬ ad_one A g → ∀ a, g.testBit a = true → ad_fit A F n (ad_ps A F g a))
theorem ad_psb {P : Nat} {A : Nat → Nat} (ok : ad_OK P A) {F g a b : Nat} : (ad_ps A F g a).testBit b = true ↔ (ad_PT A g a).testBit b = true ∧ ¬ ∃ x, F.testBit x = true ∧ g.testBit x = true ∧ ¬ (ad_PT A g a).testBit x = true ∧ (A x).testBit b = true := by
  unfold ad_ps
  rw [ad_db, ad_AFb ok]
  constructor
  · rintro ⟨h1, h2⟩
    refine ⟨h1, ?_⟩
    rintro ⟨x, g1, g2, g3, g4⟩
    exact h2 ⟨x, ad_db.mpr ⟨ad_ab.mpr ⟨g1, g2⟩, g3⟩, g4⟩
  · rintro ⟨h1, h2⟩
    refine ⟨h1, ?_⟩
    rintro ⟨x, g1, g2⟩
    obtain ⟨g3, g4⟩ := ad_db.mp g1
    exact h2 ⟨x, (ad_ab.mp g3).1, (ad_ab.mp g3).2, g4, g2⟩
theorem ad_PTe {A : Nat → Nat} {g a c : Nat} (hg : g < 256) (h : (ad_PT A g a).testBit c = true) : ad_PT A g c = ad_PT A g a := by
  obtain ⟨h1, h2⟩ := (ad_PTb hg).mp h
  refine ad_ext (fun i => ?_)
  rw [ad_PTb hg, ad_PTb hg]
  exact ⟨fun ⟨z, y⟩ => ⟨ad_Rt hg h1 z, ad_Rt hg y h2⟩, fun ⟨z, y⟩ => ⟨ad_Rt hg h2 z, ad_Rt hg y h1⟩⟩
theorem ad_PTs {A : Nat → Nat} {g a : Nat} (ha : g.testBit a = true) (hg : g < 256) : (ad_PT A g a).testBit a = true := (ad_PTb hg).mpr ⟨ad_Rr ha, ad_Rr ha⟩
theorem ad_PTg {A : Nat → Nat} {g a : Nat} (hg : g < 256) : ad_sub (ad_PT A g a) g := fun _ h => (ad_Rg ((ad_PTb hg).mp h).1).2
/-- a set of parts of g that no other part of g attacks, and a choice E in it -/
def ad_inv (A : Nat → Nat) (n g U E : Nat) : Prop := ad_sub U g ∧ (∀ x b, ad_R A g x b → U.testBit b = true → U.testBit x = true) ∧ ad_sub E U ∧ ad_nf A E ∧
  ∀ F, (∀ x, U.testBit x = true → (F.testBit x = true ↔ E.testBit x = true)) → ∀ a, U.testBit a = true → ad_fit A F n (ad_ps A F g a)
/-- an argument outside of U to which only U and its own part come -/
theorem ad_low {A : Nat → Nat} {g U : Nat} (hg : g < 256) (h : ∃ a, g.testBit a = true ∧ ¬ U.testBit a = true) : ∃ a, g.testBit a = true ∧ ¬ U.testBit a = true ∧ ∀ x, ad_R A g x a → ¬ U.testBit x = true → (ad_PT A g a).testBit x = true := by
  obtain ⟨a0, h1, h2⟩ := h
  have hp := ad_pcn (ad_w A g 8 a0) 8
  obtain ⟨k, hk, ⟨a, e, ha, hu⟩, hm⟩ := ad_top (Q := fun k => ∃ a, ad_pc (ad_w A g 8 a) 8 = k ∧ g.testBit a = true ∧ ¬ U.testBit a = true) 9 ⟨ad_pc (ad_w A g 8 a0) 8, by omega, a0, rfl, h1, h2⟩
  refine ⟨a, ha, hu, fun x hx hux => (ad_PTb hg).mpr ⟨?_, hx⟩⟩
  have hs : ad_sub (ad_w A g 8 a) (ad_w A g 8 x) := fun b hb => ad_Rt hg hx hb
  have hxg := (ad_Rg hx).1
  have hp2 := ad_pcn (ad_w A g 8 x) 8
  have hle := hm (ad_pc (ad_w A g 8 x) 8) (by omega) ⟨x, rfl, hxg, hux⟩
  apply Classical.byContradiction
  intro hn
  have := ad_pcl hs (ad_Rr hxg) hn 8 (ad_b8 hg hxg)
  omega
theorem ad_ext1 {P : Nat} {A : Nat → Nat} (ok : ad_OK P A) {n g : Nat} (hg : g < 256) (IH : ∀ a, g.testBit a = true → ∀ s, s < 256 → ad_sub s (ad_PT A g a) → ∃ E, ad_sub E s ∧ ad_nf A E ∧ ∀ F, F &&& s = E → ad_fit A F n s)
    {U E : Nat} (hi : ad_inv A n g U E) (h : ∃ a, g.testBit a = true ∧ ¬ U.testBit a = true) : ∃ U' E', ad_inv A n g U' E' ∧ ad_pc U 8 < ad_pc U' 8 := by
  obtain ⟨i1, i2, i3, i4, i5⟩ := hi
  obtain ⟨a, ha, hu, hl⟩ := ad_low (A := A) hg h
  have hT := ad_PTg (A := A) (a := a) hg
  have hTs := ad_PTs (A := A) ha hg
  -- the part of a is outside of U
  have hTU : ∀ x, (ad_PT A g a).testBit x = true → ¬ U.testBit x = true := fun x hx hU => hu (i2 a x ((ad_PTb hg).mp hx).1 hU)
  have hs8 : ad_sd (ad_PT A g a) (ad_AF A E) < 256 := ad_sd8 (ad_PT8 hg)
  obtain ⟨D, d1, d2, d3⟩ := IH a ha (ad_sd (ad_PT A g a) (ad_AF A E)) hs8 (fun x hx => (ad_db.mp hx).1)
  have dT : ad_sub D (ad_PT A g a) := fun x hx => (ad_db.mp (d1 x hx)).1
  -- who comes to the part of a
  have hin : ∀ x b, (ad_PT A g a).testBit b = true → ad_R A g x b → U.testBit x = true ∨ (ad_PT A g a).testBit x = true := by
    intro x b hb hx
    by_cases e : U.testBit x = true
    · exact Or.inl e
    · exact Or.inr (hl x (ad_Rt hg hx ((ad_PTb hg).mp hb).2) e)
  refine ⟨U ||| ad_PT A g a, E ||| D, ⟨?_, ?_, ?_, ?_, ?_⟩, ?_⟩
  · intro x hx
    exact (ad_ob.mp hx).elim (i1 x) (hT x)
  · intro x b hx hb
    rcases ad_ob.mp hb with z | z
    · exact ad_ob.mpr (Or.inl (i2 x b hx z))
    · exact ad_ob.mpr (hin x b z hx)
  · intro x hx
    exact ad_ob.mpr ((ad_ob.mp hx).elim (fun z => Or.inl (i3 x z)) (fun z => Or.inr (dT x z)))
  · rw [ad_nfi ok] at i4 d2 ⊢
    intro x y hx hy hxy
    rcases ad_ob.mp hx with z | z
    · rcases ad_ob.mp hy with w | w
      · exact i4 x y z w hxy
      · exact (ad_db.mp (d1 y w)).2 ((ad_AFb ok).mpr ⟨x, z, hxy⟩)
    · rcases ad_ob.mp hy with w | w
      · exact hTU x (dT x z) (i2 x y (ad_Ra (hT x (dT x z)) (i1 y (i3 y w)) hxy) (i3 y w))
      · exact d2 x y z w hxy
  · intro F hF c hc
    have hFU : ∀ x, U.testBit x = true → (F.testBit x = true ↔ E.testBit x = true) := by
      intro x hx
      rw [hF x (ad_ob.mpr (Or.inl hx)), ad_ob]
      exact ⟨fun z => z.elim id (fun y => absurd hx (hTU x (dT x y))), Or.inl⟩
    rcases ad_ob.mp hc with z | z
    · exact i5 F hFU c z
    · have e : ad_ps A F g c = ad_sd (ad_PT A g a) (ad_AF A E) := by
        refine ad_ext (fun b => ?_)
        rw [ad_psb ok, ad_PTe hg z, ad_db, ad_AFb ok]
        constructor
        · rintro ⟨h1, h2⟩
          refine ⟨h1, ?_⟩
          rintro ⟨x, h3, h4⟩
          exact h2 ⟨x, (hFU x (i3 x h3)).mpr h3, i1 x (i3 x h3), fun y => hTU x y (i3 x h3), h4⟩
        · rintro ⟨h1, h2⟩
          refine ⟨h1, ?_⟩
          rintro ⟨x, h3, h4, h5, h6⟩
          rcases hin x b h1 (ad_Ra h4 (hT b h1) h6) with y | y
          · exact h2 ⟨x, (hFU x y).mp h3, h6⟩
          · exact h5 y
      rw [e]
      apply d3 F
      refine ad_ext (fun b => ?_)
      rw [ad_ab]
      constructor
      · rintro ⟨h1, h2⟩
        have hbT := (ad_db.mp h2).1
        rcases ad_ob.mp ((hF b (ad_ob.mpr (Or.inr hbT))).mp h1) with y | y
        · exact absurd (i3 b y) (hTU b hbT)
        · exact y
      · intro h1
        exact ⟨(hF b (ad_ob.mpr (Or.inr (dT b h1)))).mpr (ad_ob.mpr (Or.inr h1)), d1 b h1⟩
  · exact ad_pcl (fun x hx => ad_ob.mpr (Or.inl hx)) (ad_ob.mpr (Or.inr hTs)) hu 8 (ad_b8 hg ha)
theorem ad_ext2 {P : Nat} {A : Nat → Nat} (ok : ad_OK P A) {n g : Nat} (hg : g < 256) (IH : ∀ a, g.testBit a = true → ∀ s, s < 256 → ad_sub s (ad_PT A g a) → ∃ E, ad_sub E s ∧ ad_nf A E ∧ ∀ F, F &&& s = E → ad_fit A F n s) :
    ∀ k U E, ad_inv A n g U E → 8 ≤ ad_pc U 8 + k → ∃ E', ad_inv A n g g E' := by
  have key : ∀ U E, ad_inv A n g U E → ¬ (∃ a, g.testBit a = true ∧ ¬ U.testBit a = true) → ad_inv A n g g E := by
    intro U E hi hn
    have e : U = g := ad_seq hi.1 (fun a ha => by
      apply Classical.byContradiction
      intro hb
      exact hn ⟨a, ha, hb⟩)
    rw [e] at hi
    exact hi
  intro k
  induction k with
  | zero =>
    intro U E hi hk
    by_cases e : ∃ a, g.testBit a = true ∧ ¬ U.testBit a = true
    · obtain ⟨U', E', _, h2⟩ := ad_ext1 ok hg IH hi e
      have := ad_pcn U' 8
      omega
    · exact ⟨E, key U E hi e⟩
  | succ k ih =>
    intro U E hi hk
    by_cases e : ∃ a, g.testBit a = true ∧ ¬ U.testBit a = true
    · obtain ⟨U', E', h1, h2⟩ := ad_ext1 ok hg IH hi e
      exact ih U' E' h1 (by omega)
    · exact ⟨E, key U E hi e⟩
theorem ad_nv1 {P : Nat} {A : Nat → Nat} (ok : ad_OK P A) {g : Nat} (hg : g < 256) : ∃ E, ad_sub E g ∧ ad_nv A E g := by
  have h0 : ad_nf A 0 := (ad_nfi ok).mpr (fun a _ h => absurd h (ad_b0 a))
  obtain ⟨E, h1, ⟨h2, h3⟩, h4⟩ := ad_top (Q := fun s => ad_sub s g ∧ ad_nf A s) 256 ⟨0, by decide, fun a h => absurd h (ad_b0 a), h0⟩
  refine ⟨E, h2, h3, fun a ha hn hf => ?_⟩
  have hs : ad_sub (E ||| 2 ^ a) g := by
    intro i hi
    rcases ad_ob.mp hi with z | z
    · exact h2 i z
    · rw [ad_2b] at z; exact z ▸ ha
  have a1 := h4 _ (ad_s8 hg hs) ⟨hs, hf⟩
  have a2 := ad_le (s := E) (t := E ||| 2 ^ a) (fun i hi => ad_ob.mpr (Or.inl hi))
  have e : E ||| 2 ^ a = E := by omega
  apply hn
  rw [← e]
  exact ad_ob.mpr (Or.inr (ad_2b.mpr rfl))
theorem ad_fex {P : Nat} {A : Nat → Nat} (ok : ad_OK P A) : ∀ n g, g < 256 → ad_pc g 8 < n → ∃ E, ad_sub E g ∧ ad_nf A E ∧ ∀ F, F &&& g = E → ad_fit A F n g
  | 0, _, _, h => absurd h (by omega)
  | n + 1, g, hg, hp => by
    by_cases h1 : ad_one A g
    · obtain ⟨E, e1, e2⟩ := ad_nv1 ok hg
      exact ⟨E, e1, e2.1, fun F hF => ⟨fun _ => by rw [hF]; exact e2, fun z => absurd h1 z⟩⟩
    · have IH : ∀ a, g.testBit a = true → ∀ s, s < 256 → ad_sub s (ad_PT A g a) → ∃ E, ad_sub E s ∧ ad_nf A E ∧ ∀ F, F &&& s = E → ad_fit A F n s := by
        intro a ha s hs hsT
        apply ad_fex ok n s hs
        have hlt : ad_pc (ad_PT A g a) 8 < ad_pc g 8 := by
          have : ∃ b, g.testBit b = true ∧ ¬ (ad_PT A g a).testBit b = true := by
            apply Classical.byContradiction
            intro hn
            apply h1
            rw [← ad_one1 hg ha]
            refine ad_seq (ad_PTg hg) (fun b hb => ?_)
            apply Classical.byContradiction
            intro hc
            exact hn ⟨b, hb, hc⟩
          obtain ⟨b, b1, b2⟩ := this
          exact ad_pcl (ad_PTg hg) b1 b2 8 (ad_b8 hg b1)
        have := ad_pcm hsT 8
        omega
      have h0 : ad_inv A n g 0 0 := ⟨fun a h => absurd h (ad_b0 a), fun x b _ h => absurd h (ad_b0 b), fun a h => absurd h (ad_b0 a), (ad_nfi ok).mpr (fun a _ h => absurd h (ad_b0 a)), fun F _ a h => absurd h (ad_b0 a)⟩
      obtain ⟨E, e1, e2, e3, e4, e5⟩ := ad_ext2 ok hg IH 8 0 0 h0 (by omega)
      refine ⟨E, e3, e4, fun F hF => ⟨fun z => absurd z h1, fun _ a ha => e5 F (fun x hx => ?_) a ha⟩⟩
      rw [← hF, ad_ab]
      exact ⟨fun z => ⟨z, hx⟩, fun z => z.1⟩
theorem ad_cf2 {P : Nat} {A : Nat → Nat} (ok : ad_OK P A) : ∃ E, E < 256 ∧ ad_Cf P A E ∧ ∃ n, ad_fit A E n P := by
  obtain ⟨E, e1, e2, e3⟩ := ad_fex ok 9 P ok.1 (by have := ad_pcn P 8; omega)
  refine ⟨E, ad_s8 ok.1 e1, ⟨e1, (ad_nfi ok).mp e2⟩, 9, e3 E ?_⟩
  exact ad_ext (fun i => by rw [ad_ab]; exact ⟨fun z => z.1, fun z => ⟨z, e1 i z⟩⟩)
end
section
/-! ===== the walk: the small methods ===== -/
theorem ad_in {post : Int32 → Prop} {u : St1} {x y : Int32} (s a : Nat) (h0 : s.testBit a = false → post 0) (h1 : s.testBit a = true → post 1) (hs : s < 256) (ha : a < 8) (hx : x = nI s := by rfl) (hy : y = nI a := by rfl) : wpX_isIn post u x y := by
  subst hx hy
  obtain ⟨f0, f1, f2, a1, a2, a3, a4, a5, a6, a7, a8, a9⟩ := u
  refine ⟨fun z => h0 ((ad_tb hs ha).mp z), fun z => h1 ?_⟩
  cases e : s.testBit a
  · exact absurd ((ad_tb hs ha).mpr e) z
  · rfl
theorem ad_inb {X Y : Prop} {u : St1} {x y : Int32} (s a : Nat) (h0 : s.testBit a = false → X) (h1 : s.testBit a = true → Y) (hs : s < 256) (ha : a < 8) (hx : x = nI s := by rfl) (hy : y = nI a := by rfl) : wpX_isIn (fun r => (r = 0 → X) ∧ (¬ r = 0 → Y)) u x y :=
  ad_in s a (fun z => br_t rfl (h0 z)) (fun z => br_f (by decide) (h1 z)) hs ha hx hy
theorem ad_nt {b : Bool} (h : b = false) : ¬ b = true := by rw [h]; decide
section
variable {P : Nat} {A B : Nat → Nat} {f0 f1 f2 : Int32} {a1 a2 : Nat → Int32} {a3 a4 a5 a6 a7 : Nat → Int64} {a8 a9 : Nat → Int32}
theorem ad_aft {s i : Nat} (e : s.testBit i = true) : ad_af A s (i + 1) = ad_af A s i ||| A i := if_pos e
theorem ad_aff {s i : Nat} (e : s.testBit i = false) : ad_af A s (i + 1) = ad_af A s i := if_neg (ad_nt e)
theorem ad_from {post : Int32 → Prop} (h1 : ∀ i, i < 8 → a1 i = nI (A i)) {s : Nat} (hs : s < 256) (H : post (nI (ad_AF A s))) {x : Int32} (hx : x = nI s := by rfl) : wpX_attackedFrom post (f0, f1, f2, a1, a2, a3, a4, a5, a6, a7, a8, a9) x := by
  subst hx
  refine pk_loop (fun n i x => wX_attackedFrom_4 post (nI s) f0 f1 f2 a1 a2 a3 a4 a5 a6 a7 a8 a9 n x (nI i)) (fun i x => x = nI (ad_af A s i)) 8 0 0 (by omega) rfl ?_ ?_
  · intro n x h
    exact pk_le 8 8 (fun _ => by rw [h]; exact H) (fun z => absurd z (by omega))
  · intro n i x hi h hw
    refine pk_le 8 i (fun z => absurd z (by omega)) (fun _ => ad_inb s i (fun e => ?_) (fun e => ⟨pk_in i 8 hi, ?_⟩) hs hi)
    · exact nm_r (nI_1 i) (hw _ (by rw [h, ad_aff e]))
    · refine nm_r (e' := nI (ad_af A s (i + 1))) ?_ (nm_r (nI_1 i) (hw _ rfl))
      rw [h, nI_clamp (by omega), h1 i hi, ad_or, ad_aft e]
theorem ad_dft {x i : Nat} (e : P.testBit i = true) (e2 : ad_sd (B i) x = 0) : ad_df P x B (i + 1) = ad_df P x B i ||| 2 ^ i := if_pos ⟨e, e2⟩
theorem ad_dff {x i : Nat} (e : ¬ (P.testBit i = true ∧ ad_sd (B i) x = 0)) : ad_df P x B (i + 1) = ad_df P x B i := if_neg e
theorem ad_defd {post : Int32 → Prop} (ok : ad_OK P A) (h0 : f0 = nI P) (h1 : ∀ i, i < 8 → a1 i = nI (A i)) (h2 : ∀ i, i < 8 → a2 i = nI (B i)) (hB : ∀ i, B i < 256) {s : Nat} (hs : s < 256) (H : post (nI (ad_D P A B s))) {x : Int32} (hx : x = nI s := by rfl) : wpX_defendedBy post (f0, f1, f2, a1, a2, a3, a4, a5, a6, a7, a8, a9) x := by
  refine ad_from h1 hs ?_ hx
  refine pk_loop (fun n i x => wX_defendedBy_11 post (nI (ad_AF A s)) f0 f1 f2 a1 a2 a3 a4 a5 a6 a7 a8 a9 n x (nI i)) (fun i x => x = nI (ad_df P (ad_AF A s) B i)) 8 0 0 (by omega) rfl ?_ ?_
  · intro n x h
    exact pk_le 8 8 (fun _ => by rw [h]; exact H) (fun z => absurd z (by omega))
  · intro n i x hi h hw
    refine pk_le 8 i (fun z => absurd z (by omega)) (fun _ => ad_inb P i (fun e => ?_) (fun e => ⟨pk_in i 8 hi, ?_⟩) ok.1 hi h0)
    · exact nm_r (nI_1 i) (hw _ (by rw [h, ad_dff (fun z => ad_nt e z.1)]))
    · rw [nI_clamp (by omega), h2 i hi, ad_nand]
      have hd := ad_sd8 (b := ad_AF A s) (hB i)
      refine pk_eq (ad_sd (B i) (ad_AF A s)) 0 (fun z => ?_) (fun z => ?_)
      · refine nm_r (e' := nI (ad_df P (ad_AF A s) B (i + 1))) ?_ (nm_r (nI_1 i) (hw _ rfl))
        rw [h, ad_1s i hi, ad_or, ad_dft e z]
      · exact nm_r (nI_1 i) (hw _ (by rw [h, ad_dff (fun y => z y.2)]))
/-- the words of the sets that have an argument -/
def ad_H (a3 : Nat → Int64) : Prop := ∀ a w j, a < 8 → w < 4 → j < 64 → ad_lb (a3 (4 * a + w)) j = (64 * w + j).testBit a
theorem ad_hit {post : Int64 → Prop} (hH : ad_H a3) {z w : Nat} (hz : z < 256) (hw : w < 4) (H : ∀ x : Int64, (∀ j, j < 64 → (ad_lb x j = true ↔ ∃ a, z.testBit a = true ∧ (64 * w + j).testBit a = true)) → post x) {x y : Int32} (hx : x = nI z := by rfl) (hy : y = nI w := by rfl) : wpX_hitting post (f0, f1, f2, a1, a2, a3, a4, a5, a6, a7, a8, a9) x y := by
  subst hx hy
  refine pk_loop (fun n i x => wX_hitting_5 post (nI z) (nI w) f0 f1 f2 a1 a2 a3 a4 a5 a6 a7 a8 a9 n x (nI i)) (fun i x => ∀ j, j < 64 → (ad_lb x j = true ↔ ∃ a, a < i ∧ z.testBit a = true ∧ (64 * w + j).testBit a = true)) 8 0 0 (by omega) ?_ ?_ ?_
  · intro j hj
    rw [ad_l0]
    exact ⟨fun z => absurd z (by decide), fun ⟨a, h, _⟩ => absurd h (by omega)⟩
  · intro n x h
    refine pk_le 8 8 (fun _ => H x (fun j hj => ?_)) (fun z => absurd z (by omega))
    rw [h j hj]
    exact ⟨fun ⟨a, _, y⟩ => ⟨a, y⟩, fun ⟨a, y1, y2⟩ => ⟨a, ad_b8 hz y1, y1, y2⟩⟩
  · intro n i x hi h hwl
    refine pk_le 8 i (fun z => absurd z (by omega)) (fun _ => ad_inb z i (fun e => ?_) (fun e => ⟨pk_in (4 * i + w) 32 (by omega) (ad_4 i w), nm_e ?_⟩) hz hi)
    · refine nm_r (nI_1 i) (hwl _ (fun j hj => ?_))
      rw [h j hj]
      exact ⟨fun ⟨a, y1, y2⟩ => ⟨a, by omega, y2⟩, fun ⟨a, y1, y2, y3⟩ => ⟨a, by
        have : a ≠ i := fun q => ad_nt e (q ▸ y2)
        omega, y2, y3⟩⟩
    · refine nm_r (nI_1 i) (hwl _ (fun j hj => ?_))
      rw [ad_4, nI_clamp (by omega), ad_lo, Bool.or_eq_true, h j hj, hH i w j hi hw hj]
      constructor
      · rintro (⟨a, y1, y2⟩ | y)
        · exact ⟨a, by omega, y2⟩
        · exact ⟨i, by omega, e, y⟩
      · rintro ⟨a, y1, y2, y3⟩
        by_cases q : a = i
        · exact Or.inr (q ▸ y3)
        · exact Or.inl ⟨a, by omega, y2, y3⟩
theorem ad_dfg {post : Int64 → Prop} (hH : ad_H a3) (h2 : ∀ i, i < 8 → a2 i = nI (B i)) (hB : ∀ i, B i < 256) {c w : Nat} (hc : c < 8) (hw : w < 4) (H : ∀ x : Int64, (∀ j, j < 64 → (ad_lb x j = true ↔ ∀ y, (B c).testBit y = true → ∃ a, (B y).testBit a = true ∧ (64 * w + j).testBit a = true)) → post x) {x y : Int32} (hx : x = nI c := by rfl) (hy : y = nI w := by rfl) : wpX_defending post (f0, f1, f2, a1, a2, a3, a4, a5, a6, a7, a8, a9) x y := by
  subst hx hy
  refine pk_loop (fun n i x => wX_defending_7 post (nI c) (nI w) f0 f1 f2 a1 a2 a3 a4 a5 a6 a7 a8 a9 n x (nI i)) (fun i x => ∀ j, j < 64 → (ad_lb x j = true ↔ ∀ y, y < i → (B c).testBit y = true → ∃ a, (B y).testBit a = true ∧ (64 * w + j).testBit a = true)) 8 0 (-1) (by omega) ?_ ?_ ?_
  · intro j hj
    rw [ad_lm hj]
    exact ⟨fun _ y h => absurd h (by omega), fun _ => rfl⟩
  · intro n x h
    refine pk_le 8 8 (fun _ => H x (fun j hj => ?_)) (fun z => absurd z (by omega))
    rw [h j hj]
    exact ⟨fun t y q => t y (ad_b8 (hB c) q) q, fun t y _ q => t y q⟩
  · intro n i x hi h hwl
    refine pk_le 8 i (fun z => absurd z (by omega)) (fun _ => ⟨pk_in c 8 hc, ?_⟩)
    refine ad_inb (B c) i (fun e => ?_) (fun e => ⟨pk_in i 8 hi, ?_⟩) (hB c) hi (by rw [nI_clamp (by omega), h2 c hc])
    · refine nm_r (nI_1 i) (hwl _ (fun j hj => ?_))
      rw [h j hj]
      exact ⟨fun t y y1 y2 => t y (by
        have : y ≠ i := fun q => ad_nt e (q ▸ y2)
        omega) y2, fun t y y1 y2 => t y (by omega) y2⟩
    · refine ad_hit hH (hB i) hw (fun v hv => nm_e (nm_r (nI_1 i) (hwl _ (fun j hj => ?_)))) (by rw [nI_clamp (by omega), h2 i hi])
      rw [ad_la, Bool.and_eq_true, h j hj, hv j hj]
      constructor
      · rintro ⟨t1, t2⟩ y y1 y2
        by_cases q : y = i
        · rw [q]; exact t2
        · exact t1 y (by omega) y2
      · intro t
        exact ⟨fun y y1 y2 => t y (by omega) y2, t i (by omega) e⟩
end
end
section
/-! ===== the walk: families ===== -/
/-- at place o a family: the sets with Q -/
def ad_F (a : Nat → Int64) (o : Nat) (Q : Nat → Prop) : Prop := ∀ w j, w < 4 → j < 64 → (ad_lb (a (o + w)) j = true ↔ Q (64 * w + j))
/-- all but the four words at o are as before -/
def ad_kp (o : Nat) (a b : Nat → Int64) : Prop := ∀ i, (i < o ∨ o + 4 ≤ i) → b i = a i
/-- w words of a family are written -/
def ad_Iw (o : Nat) (Q : Nat → Prop) (a : Nat → Int64) (w : Nat) (b : Nat → Int64) : Prop := (∀ v j, v < w → j < 64 → (ad_lb (b (o + v)) j = true ↔ Q (64 * v + j))) ∧ ∀ i, (i < o ∨ o + w ≤ i) → b i = a i
theorem ad_Iw0 {o : Nat} {Q : Nat → Prop} {a : Nat → Int64} : ad_Iw o Q a 0 a := ⟨fun v j h => absurd h (by omega), fun _ _ => rfl⟩
theorem ad_IwS {o w : Nat} {Q : Nat → Prop} {a b : Nat → Int64} {x : Int64} (h : ad_Iw o Q a w b) (hx : ∀ j, j < 64 → (ad_lb x j = true ↔ Q (64 * w + j))) : ad_Iw o Q a (w + 1) (vp_updL b (o + w) x) := by
  refine ⟨fun v j hv hj => ?_, fun i hi => ?_⟩
  · by_cases e : v = w
    · rw [e, pk_uLs]; exact hx j hj
    · rw [pk_uLn (by omega)]; exact h.1 v j (by omega) hj
  · rw [pk_uLn (by omega)]; exact h.2 i (by omega)
theorem ad_IwF {o : Nat} {Q : Nat → Prop} {a b : Nat → Int64} (h : ad_Iw o Q a 4 b) : ad_F b o Q := fun w j hw hj => h.1 w j hw hj
theorem ad_IwK {o : Nat} {Q : Nat → Prop} {a b : Nat → Int64} (h : ad_Iw o Q a 4 b) : ad_kp o a b := h.2
theorem ad_Fk {o o' : Nat} {Q : Nat → Prop} {a b : Nat → Int64} (h : ad_F a o Q) (hk : ad_kp o' a b) (ho : o + 4 ≤ o' ∨ o' + 4 ≤ o) : ad_F b o Q := by
  intro w j hw hj
  rw [hk (o + w) (by omega)]
  exact h w j hw hj
theorem ad_Fe {o : Nat} {Q Q' : Nat → Prop} {a : Nat → Int64} (h : ad_F a o Q) (he : ∀ s, s < 256 → (Q s ↔ Q' s)) : ad_F a o Q' := by
  intro w j hw hj
  rw [h w j hw hj]
  exact he _ (by omega)
theorem ad_kpt {o : Nat} {a b c : Nat → Int64} (h : ad_kp o a b) (h2 : ad_kp o b c) : ad_kp o a c := fun i hi => by rw [h2 i hi, h i hi]
theorem ad_i4 (o w : Nat) : nI o + nI w = nI (o + w) := nI_add o w
theorem ad_255 {P s : Nat} (hs : s < 256) : (¬ ∃ a, (ad_sd 255 P).testBit a = true ∧ s.testBit a = true) ↔ ad_sub s P := by
  have h255 : ∀ a, (255 : Nat).testBit a = true ↔ a < 8 := fun a => by
    rw [show (255 : Nat) = 2 ^ 8 - 1 from rfl, Nat.testBit_two_pow_sub_one, decide_eq_true_eq]
  constructor
  · intro h a ha
    apply Classical.byContradiction
    intro hp
    exact h ⟨a, ad_db.mpr ⟨(h255 a).mpr (ad_b8 hs ha), hp⟩, ha⟩
  · rintro h ⟨a, h1, h2⟩
    exact (ad_db.mp h1).2 (h a h2)
theorem ad_nb {b : Bool} : (!b) = true ↔ ¬ b = true := by cases b <;> simp
section
variable {P : Nat} {A B : Nat → Nat} {f0 f1 f2 : Int32} {a1 a2 : Nat → Int32} {a3 a4 a5 a6 a7 : Nat → Int64} {a8 a9 : Nat → Int32}
theorem ad_sFree {post : St1 → Prop} (ok : ad_OK P A) (h0 : f0 = nI P) (h1 : ∀ i, i < 8 → a1 i = nI (A i)) (hH : ad_H a3) (H : ∀ b, ad_F b 0 (ad_Cf P A) → ad_kp 0 a4 b → post (f0, f1, f2, a1, a2, a3, b, a5, a6, a7, a8, a9)) : wpX_startFree post (f0, f1, f2, a1, a2, a3, a4, a5, a6, a7, a8, a9) := by
  refine pk_loop (fun n i b => wX_startFree_2 post f0 f1 f2 n (nI i) a1 a2 a3 b a5 a6 a7 a8 a9) (ad_Iw 0 (ad_Cf P A) a4) 4 0 a4 (by omega) ad_Iw0 ?_ ?_
  · intro n b h
    exact pk_le 4 4 (fun _ => H b (ad_IwF h) (ad_IwK h)) (fun z => absurd z (by omega))
  · intro n w b hw h hk
    refine pk_le 4 w (fun z => absurd z (by omega)) (fun _ => ?_)
    refine ad_hit (z := ad_sd 255 P) hH (ad_sd8 (by decide)) hw (fun v hv => nm_e ?_) (by rw [h0]; exact ad_nand 255 P)
    refine pk_loop (fun m i x => wX_startFree_30 post (wX_startFree_2 post f0 f1 f2 n) (nI w) f0 f1 f2 a1 a2 a3 b a5 a6 a7 a8 a9 m x (nI i)) (fun i x => ∀ j, j < 64 → (ad_lb x j = true ↔ ad_sub (64 * w + j) P ∧ ∀ a, a < i → (64 * w + j).testBit a = true → ¬ ∃ c, (A a).testBit c = true ∧ (64 * w + j).testBit c = true)) 8 0 _ (by omega) ?_ ?_ ?_
    · intro j hj
      rw [ad_ln _ hj, ad_nb, hv j hj, ad_255 (by omega)]
      exact ⟨fun z => ⟨z, fun a ha => absurd ha (by omega)⟩, fun z => z.1⟩
    · intro m x hx
      refine pk_le 8 8 (fun _ => ⟨pk_in w 48 (by omega), nm_r (e' := vp_updL b (0 + w) x) (by rw [nI_clamp (by omega), Nat.zero_add]) (nm_r (nI_1 w) (hk _ (ad_IwS h (fun j hj => ?_))))⟩) (fun z => absurd z (by omega))
      rw [hx j hj]
      constructor
      · rintro ⟨z1, z2⟩
        exact ⟨z1, fun a c ha hc hac => z2 a (ad_b8 (by omega) ha) ha ⟨c, hac, hc⟩⟩
      · rintro ⟨z1, z2⟩
        exact ⟨z1, fun a _ ha ⟨c, hac, hc⟩ => z2 a c ha hc hac⟩
    · intro m i x hi hx hm
      refine pk_le 8 i (fun z => absurd z (by omega)) (fun _ => ⟨pk_in (4 * i + w) 32 (by omega) (ad_4 i w), pk_in i 8 hi, ?_⟩)
      refine ad_hit (z := A i) hH (ad_A8 ok i) hw (fun y hy => nm_e (nm_r (nI_1 i) (hm _ (fun j hj => ?_)))) (by rw [nI_clamp (by omega), h1 i hi])
      rw [ad_la, Bool.and_eq_true, hx j hj, ad_ln _ hj, ad_nb, ad_la, Bool.and_eq_true, hy j hj, ad_4, nI_clamp (by omega), hH i w j hi hw hj]
      constructor
      · rintro ⟨⟨z1, z2⟩, z3⟩
        refine ⟨z1, fun a ha hs => ?_⟩
        by_cases e : a = i
        · subst e; exact fun q => z3 ⟨hs, q⟩
        · exact z2 a (by omega) hs
      · rintro ⟨z1, z2⟩
        exact ⟨⟨z1, fun a ha => z2 a (by omega)⟩, fun q => z2 i (by omega) q.1 q.2⟩
theorem ad_dni (ba : ad_BA A B) {s a : Nat} : ad_dn A s a ↔ ∀ y, (B a).testBit y = true → ∃ c, (B y).testBit c = true ∧ s.testBit c = true := by
  unfold ad_dn
  constructor
  · intro h y hy
    rw [ba] at hy
    obtain ⟨c, h1, h2⟩ := h y hy
    exact ⟨c, by rw [ba]; exact h2, h1⟩
  · intro h y hy
    obtain ⟨c, h1, h2⟩ := h y (by rw [ba]; exact hy)
    rw [ba] at h1
    exact ⟨c, h2, h1⟩
theorem ad_sAdm {post : St1 → Prop} (ba : ad_BA A B) (h2 : ∀ i, i < 8 → a2 i = nI (B i)) (hB : ∀ i, B i < 256) (hH : ad_H a3) (hF : ad_F a4 0 (ad_Cf P A)) (H : ∀ b, ad_F b 4 (ad_Ad P A) → ad_kp 4 a4 b → post (f0, f1, f2, a1, a2, a3, b, a5, a6, a7, a8, a9)) : wpX_startAdmissible post (f0, f1, f2, a1, a2, a3, a4, a5, a6, a7, a8, a9) := by
  refine pk_loop (fun n i b => wX_startAdmissible_2 post f0 f1 f2 n (nI i) a1 a2 a3 b a5 a6 a7 a8 a9) (ad_Iw 4 (ad_Ad P A) a4) 4 0 a4 (by omega) ad_Iw0 ?_ ?_
  · intro n b h
    exact pk_le 4 4 (fun _ => H b (ad_IwF h) (ad_IwK h)) (fun z => absurd z (by omega))
  · intro n w b hw h hk
    refine pk_le 4 w (fun z => absurd z (by omega)) (fun _ => ⟨pk_in w 48 (by omega), nm_e ?_⟩)
    refine pk_loop (fun m i x => wX_startAdmissible_17 post (wX_startAdmissible_2 post f0 f1 f2 n) (nI w) f0 f1 f2 a1 a2 a3 b a5 a6 a7 a8 a9 m x (nI i)) (fun i x => ∀ j, j < 64 → (ad_lb x j = true ↔ ad_Cf P A (64 * w + j) ∧ ∀ a, a < i → (64 * w + j).testBit a = true → ad_dn A (64 * w + j) a)) 8 0 _ (by omega) ?_ ?_ ?_
    · intro j hj
      rw [nI_clamp (by omega), h.2 w (by omega), ← Nat.zero_add w, hF w j hw hj, Nat.zero_add]
      exact ⟨fun z => ⟨z, fun a ha => absurd ha (by omega)⟩, fun z => z.1⟩
    · intro m x hx
      refine pk_le 8 8 (fun _ => ⟨pk_in (4 + w) 48 (by omega) (ad_i4 4 w), nm_r (e' := vp_updL b (4 + w) x) (by rw [show (4 : Int32) = nI 4 from rfl, nI_add, nI_clamp (by omega)]) (nm_r (nI_1 w) (hk _ (ad_IwS h (fun j hj => ?_))))⟩) (fun z => absurd z (by omega))
      rw [hx j hj]
      exact ⟨fun z => ⟨z.1, fun a ha => z.2 a (ad_b8 (by omega) ha) ha⟩, fun z => ⟨z.1, fun a _ ha => z.2 a ha⟩⟩
    · intro m i x hi hx hm
      refine pk_le 8 i (fun z => absurd z (by omega)) (fun _ => ⟨pk_in (4 * i + w) 32 (by omega) (ad_4 i w), ?_⟩)
      refine ad_dfg hH h2 hB hi hw (fun y hy => nm_e (nm_r (nI_1 i) (hm _ (fun j hj => ?_))))
      rw [ad_la, Bool.and_eq_true, hx j hj, ad_lo, Bool.or_eq_true, ad_ln _ hj, ad_nb, hy j hj, ← ad_dni ba, ad_4, nI_clamp (by omega), hH i w j hi hw hj]
      constructor
      · rintro ⟨⟨z1, z2⟩, z3⟩
        refine ⟨z1, fun a ha hs => ?_⟩
        by_cases e : a = i
        · subst e; exact z3.elim (fun q => absurd hs q) id
        · exact z2 a (by omega) hs
      · rintro ⟨z1, z2⟩
        refine ⟨⟨z1, fun a ha => z2 a (by omega)⟩, ?_⟩
        by_cases e : (64 * w + j).testBit i = true
        · exact Or.inr (z2 i (by omega) e)
        · exact Or.inl e
theorem ad_sCom {post : St1 → Prop} (ok : ad_OK P A) (ba : ad_BA A B) (h0 : f0 = nI P) (h2 : ∀ i, i < 8 → a2 i = nI (B i)) (hB : ∀ i, B i < 256) (hH : ad_H a3) (hF : ad_F a4 4 (ad_Ad P A)) (H : ∀ b, ad_F b 8 (ad_Co P A) → ad_kp 8 a4 b → post (f0, f1, f2, a1, a2, a3, b, a5, a6, a7, a8, a9)) : wpX_startComplete post (f0, f1, f2, a1, a2, a3, a4, a5, a6, a7, a8, a9) := by
  refine pk_loop (fun n i b => wX_startComplete_2 post f0 f1 f2 n (nI i) a1 a2 a3 b a5 a6 a7 a8 a9) (ad_Iw 8 (ad_Co P A) a4) 4 0 a4 (by omega) ad_Iw0 ?_ ?_
  · intro n b h
    exact pk_le 4 4 (fun _ => H b (ad_IwF h) (ad_IwK h)) (fun z => absurd z (by omega))
  · intro n w b hw h hk
    refine pk_le 4 w (fun z => absurd z (by omega)) (fun _ => ⟨pk_in (4 + w) 48 (by omega) (ad_i4 4 w), nm_e ?_⟩)
    refine pk_loop (fun m i x => wX_startComplete_19 post (wX_startComplete_2 post f0 f1 f2 n) (nI w) f0 f1 f2 a1 a2 a3 b a5 a6 a7 a8 a9 m x (nI i)) (fun i x => ∀ j, j < 64 → (ad_lb x j = true ↔ ad_Ad P A (64 * w + j) ∧ ∀ a, a < i → P.testBit a = true → ad_dn A (64 * w + j) a → (64 * w + j).testBit a = true)) 8 0 _ (by omega) ?_ ?_ ?_
    · intro j hj
      rw [show (4 : Int32) = nI 4 from rfl, nI_add, nI_clamp (by omega), h.2 (4 + w) (by omega), hF w j hw hj]
      exact ⟨fun z => ⟨z, fun a ha => absurd ha (by omega)⟩, fun z => z.1⟩
    · intro m x hx
      refine pk_le 8 8 (fun _ => ⟨pk_in (8 + w) 48 (by omega) (ad_i4 8 w), nm_r (e' := vp_updL b (8 + w) x) (by rw [show (8 : Int32) = nI 8 from rfl, nI_add, nI_clamp (by omega)]) (nm_r (nI_1 w) (hk _ (ad_IwS h (fun j hj => ?_))))⟩) (fun z => absurd z (by omega))
      rw [hx j hj]
      exact ⟨fun z => ⟨z.1, fun a ha => z.2 a (ad_b8 ok.1 ha) ha⟩, fun z => ⟨z.1, fun a _ ha => z.2 a ha⟩⟩
    · intro m i x hi hx hm
      refine pk_le 8 i (fun z => absurd z (by omega)) (fun _ => ad_inb P i (fun e => ?_) (fun e => ⟨pk_in (4 * i + w) 32 (by omega) (ad_4 i w), ?_⟩) ok.1 hi h0)
      · refine nm_r (nI_1 i) (hm _ (fun j hj => ?_))
        rw [hx j hj]
        exact ⟨fun z => ⟨z.1, fun a ha hp => z.2 a (by
          have : a ≠ i := fun q => ad_nt e (q ▸ hp)
          omega) hp⟩, fun z => ⟨z.1, fun a ha => z.2 a (by omega)⟩⟩
      · refine ad_dfg hH h2 hB hi hw (fun y hy => nm_e (nm_r (nI_1 i) (hm _ (fun j hj => ?_))))
        rw [ad_la, Bool.and_eq_true, hx j hj, ad_lo, Bool.or_eq_true, ad_ln _ hj, ad_nb, hy j hj, ← ad_dni ba, ad_4, nI_clamp (by omega), hH i w j hi hw hj]
        constructor
        · rintro ⟨⟨z1, z2⟩, z3⟩
          refine ⟨z1, fun a ha hp hd => ?_⟩
          by_cases q : a = i
          · subst q; exact z3.elim id (fun t => absurd hd t)
          · exact z2 a (by omega) hp hd
        · rintro ⟨z1, z2⟩
          refine ⟨⟨z1, fun a ha => z2 a (by omega)⟩, ?_⟩
          by_cases q : ad_dn A (64 * w + j) i
          · exact Or.inl (z2 i (by omega) e q)
          · exact Or.inr q
theorem ad_sSta {post : St1 → Prop} (ok : ad_OK P A) (ba : ad_BA A B) (h0 : f0 = nI P) (h2 : ∀ i, i < 8 → a2 i = nI (B i)) (hB : ∀ i, B i < 256) (hH : ad_H a3) (hF : ad_F a4 0 (ad_Cf P A)) (H : ∀ b, ad_F b 20 (ad_St P A) → ad_kp 20 a4 b → post (f0, f1, f2, a1, a2, a3, b, a5, a6, a7, a8, a9)) : wpX_startStable post (f0, f1, f2, a1, a2, a3, a4, a5, a6, a7, a8, a9) := by
  refine pk_loop (fun n i b => wX_startStable_2 post f0 f1 f2 n (nI i) a1 a2 a3 b a5 a6 a7 a8 a9) (ad_Iw 20 (ad_St P A) a4) 4 0 a4 (by omega) ad_Iw0 ?_ ?_
  · intro n b h
    exact pk_le 4 4 (fun _ => H b (ad_IwF h) (ad_IwK h)) (fun z => absurd z (by omega))
  · intro n w b hw h hk
    refine pk_le 4 w (fun z => absurd z (by omega)) (fun _ => ⟨pk_in w 48 (by omega), nm_e ?_⟩)
    refine pk_loop (fun m i x => wX_startStable_17 post (wX_startStable_2 post f0 f1 f2 n) (nI w) f0 f1 f2 a1 a2 a3 b a5 a6 a7 a8 a9 m x (nI i)) (fun i x => ∀ j, j < 64 → (ad_lb x j = true ↔ ad_Cf P A (64 * w + j) ∧ ∀ a, a < i → P.testBit a = true → (64 * w + j).testBit a = true ∨ ∃ y, (64 * w + j).testBit y = true ∧ (A y).testBit a = true)) 8 0 _ (by omega) ?_ ?_ ?_
    · intro j hj
      rw [nI_clamp (by omega), h.2 w (by omega), ← Nat.zero_add w, hF w j hw hj, Nat.zero_add]
      exact ⟨fun z => ⟨z, fun a ha => absurd ha (by omega)⟩, fun z => z.1⟩
    · intro m x hx
      refine pk_le 8 8 (fun _ => ⟨pk_in (20 + w) 48 (by omega) (ad_i4 20 w), nm_r (e' := vp_updL b (20 + w) x) (by rw [show (20 : Int32) = nI 20 from rfl, nI_add, nI_clamp (by omega)]) (nm_r (nI_1 w) (hk _ (ad_IwS h (fun j hj => ?_))))⟩) (fun z => absurd z (by omega))
      rw [hx j hj]
      exact ⟨fun z => ⟨z.1, fun a ha => z.2 a (ad_b8 ok.1 ha) ha⟩, fun z => ⟨z.1, fun a _ ha => z.2 a ha⟩⟩
    · intro m i x hi hx hm
      refine pk_le 8 i (fun z => absurd z (by omega)) (fun _ => ad_inb P i (fun e => ?_) (fun e => ⟨pk_in (4 * i + w) 32 (by omega) (ad_4 i w), pk_in i 8 hi, ?_⟩) ok.1 hi h0)
      · refine nm_r (nI_1 i) (hm _ (fun j hj => ?_))
        rw [hx j hj]
        exact ⟨fun z => ⟨z.1, fun a ha hp => z.2 a (by
          have : a ≠ i := fun q => ad_nt e (q ▸ hp)
          omega) hp⟩, fun z => ⟨z.1, fun a ha => z.2 a (by omega)⟩⟩
      · refine ad_hit (z := B i) hH (hB i) hw (fun y hy => nm_e (nm_r (nI_1 i) (hm _ (fun j hj => ?_)))) (by rw [nI_clamp (by omega), h2 i hi])
        have hs : (∃ a, (B i).testBit a = true ∧ (64 * w + j).testBit a = true) ↔ ∃ y, (64 * w + j).testBit y = true ∧ (A y).testBit i = true :=
          ⟨fun ⟨c, c1, c2⟩ => ⟨c, c2, by rw [← ba]; exact c1⟩, fun ⟨c, c1, c2⟩ => ⟨c, by rw [ba]; exact c2, c1⟩⟩
        rw [ad_la, Bool.and_eq_true, hx j hj, ad_lo, Bool.or_eq_true, hy j hj, hs, ad_4, nI_clamp (by omega), hH i w j hi hw hj]
        constructor
        · rintro ⟨⟨z1, z2⟩, z3⟩
          refine ⟨z1, fun a ha hp => ?_⟩
          by_cases q : a = i
          · subst q; exact z3
          · exact z2 a (by omega) hp
        · rintro ⟨z1, z2⟩
          exact ⟨⟨z1, fun a ha => z2 a (by omega)⟩, z2 i (by omega) e⟩
end
end
section
/-! ===== the walk: the least one, the greatest ones ===== -/
section
variable {P : Nat} {A B : Nat → Nat} {f0 f1 f2 : Int32} {a1 a2 : Nat → Int32} {a3 a4 a5 a6 a7 : Nat → Int64} {a8 a9 : Nat → Int32}
theorem ad_single {post : St1 → Prop} {k g : Nat} (hk : k < 12) (hg : g < 256) (H : ∀ b, ad_F b (4 * k) (fun s => s = g) → ad_kp (4 * k) a4 b → post (f0, f1, f2, a1, a2, a3, b, a5, a6, a7, a8, a9)) {x y : Int32} (hx : x = nI k := by rfl) (hy : y = nI g := by rfl) : wpX_single post (f0, f1, f2, a1, a2, a3, a4, a5, a6, a7, a8, a9) x y := by
  subst hx hy
  refine pk_loop (fun n i b => wX_single_2 post (nI k) (nI g) f0 f1 f2 n (nI i) a1 a2 a3 b a5 a6 a7 a8 a9) (ad_Iw (4 * k) (fun s => s = g) a4) 4 0 a4 (by omega) ad_Iw0 ?_ ?_
  · intro n b h
    exact pk_le 4 4 (fun _ => H b (ad_IwF h) (ad_IwK h)) (fun z => absurd z (by omega))
  · intro n w b hw h hn
    refine pk_le 4 w (fun z => absurd z (by omega)) (fun _ => ?_)
    refine pk_eq w (g / 64) (fun e => ⟨pk_in (4 * k + w) 48 (by omega) (ad_4 k w), nm_r (e' := vp_updL b (4 * k + w) _) (by rw [ad_4, nI_clamp (by omega)]) (nm_r (nI_1 w) (hn _ (ad_IwS h (fun j hj => ?_))))⟩) (fun e => ⟨pk_in (4 * k + w) 48 (by omega) (ad_4 k w), nm_r (e' := vp_updL b (4 * k + w) _) (by rw [ad_4, nI_clamp (by omega)]) (nm_r (nI_1 w) (hn _ (ad_IwS h (fun j hj => ?_))))⟩) rfl (ad_s6 (by omega))
    · rw [ad_l1 hg, decide_eq_true_eq]
      omega
    · rw [ad_l0]
      exact ⟨fun z => absurd z (by decide), fun z => absurd z (by omega)⟩
theorem ad_least {post : St1 → Prop} (ok : ad_OK P A) (h0 : f0 = nI P) (h1 : ∀ i, i < 8 → a1 i = nI (A i)) (h2 : ∀ i, i < 8 → a2 i = nI (B i)) (hB : ∀ i, B i < 256) (H : ∀ b, ad_F b 12 (fun s => s = ad_it P A B 8) → ad_kp 12 a4 b → post (f0, f1, f2, a1, a2, a3, b, a5, a6, a7, a8, a9)) : wpX_findLeast post (f0, f1, f2, a1, a2, a3, a4, a5, a6, a7, a8, a9) := by
  refine pk_loop (fun n i x => wX_findLeast_4 post f0 f1 f2 a1 a2 a3 a4 a5 a6 a7 a8 a9 n x (nI i)) (fun i x => x = nI (ad_it P A B i)) 8 0 0 (by omega) rfl ?_ ?_
  · intro n x h
    exact pk_le 8 8 (fun _ => ad_single (k := 3) (by omega) (ad_it8 ok 8) H rfl h) (fun z => absurd z (by omega))
  · intro n i x hi h hw
    exact pk_le 8 i (fun z => absurd z (by omega)) (fun _ => ad_defd ok h0 h1 h2 hB (ad_it8 ok i) (nm_r (nI_1 i) (hw _ rfl)) h)
/-! sets one argument below -/
theorem ad_bw1 : ∀ w, w < 4 → ∀ j, j < 64 → ∀ a, a < 6 → ((64 * w + j).testBit a || (decide (2 ^ a + j < 64) && decide ((64 * w + j) ||| 2 ^ a = 64 * w + (2 ^ a + j)) && (64 * w + (2 ^ a + j)).testBit a)) = true := by decide +kernel
theorem ad_bw2 : ∀ w, w < 4 → ∀ j, j < 64 → ∀ a, a < 6 → ((64 * w + j).testBit a && (decide (2 ^ a + j < 64) && (64 * w + (2 ^ a + j)).testBit a)) = false := by decide +kernel
theorem ad_bw {w j a : Nat} (hw : w < 4) (hj : j < 64) (ha : a < 6) : (¬ (64 * w + j).testBit a = true → 2 ^ a + j < 64 ∧ (64 * w + j) ||| 2 ^ a = 64 * w + (2 ^ a + j) ∧ (64 * w + (2 ^ a + j)).testBit a = true) ∧ ((64 * w + j).testBit a = true → ¬ (2 ^ a + j < 64 ∧ (64 * w + (2 ^ a + j)).testBit a = true)) := by
  have h1 := ad_bw1 w hw j hj a ha
  have h2 := ad_bw2 w hw j hj a ha
  constructor
  · intro h
    rw [Bool.or_eq_true, Bool.and_eq_true, Bool.and_eq_true, decide_eq_true_eq, decide_eq_true_eq] at h1
    rcases h1 with z | ⟨⟨z1, z2⟩, z3⟩
    · exact absurd z h
    · exact ⟨z1, z2, z3⟩
  · rintro h ⟨z1, z2⟩
    rw [h, z2, decide_eq_true z1] at h2
    exact absurd h2 (by decide)
theorem ad_b6 : ∀ w, w < 4 → ∀ j, j < 64 → (nI w &&& 1 = 0 → ¬ (64 * w + j).testBit 6 = true ∧ (64 * w + j) ||| 2 ^ 6 = 64 * (w + 1) + j ∧ w + 1 < 4) ∧ (¬ nI w &&& 1 = 0 → (64 * w + j).testBit 6 = true) := by decide +kernel
theorem ad_b7 : ∀ w, w < 4 → ∀ j, j < 64 → (nI w &&& 2 = 0 → ¬ (64 * w + j).testBit 7 = true ∧ (64 * w + j) ||| 2 ^ 7 = 64 * (w + 2) + j ∧ w + 2 < 4) ∧ (¬ nI w &&& 2 = 0 → (64 * w + j).testBit 7 = true) := by decide +kernel
theorem ad_lhi {x : Int64} {j : Nat} (h : 64 ≤ j) : ad_lb x j = false := BitVec.getLsbD_of_ge _ _ h
theorem ad_below {post : Int64 → Prop} (hH : ad_H a3) {a w : Nat} (ha : a < 8) (hw : w < 4) {Q : Nat → Prop} (hQ : ∀ v j, w ≤ v → v < 4 → j < 64 → (ad_lb (a6 v) j = true ↔ Q (64 * v + j))) (H : ∀ x : Int64, (∀ j, j < 64 → (ad_lb x j = true ↔ ¬ (64 * w + j).testBit a = true ∧ Q ((64 * w + j) ||| 2 ^ a))) → post x) : wpX_below post (f0, f1, f2, a1, a2, a3, a4, a5, a6, a7, a8, a9) (nI a) (nI w) := by
  refine pk_le 6 a (fun z => ?_) (fun z => ⟨pk_in w 4 hw, pk_in (4 * a + w) 32 (by omega) (ad_4 a w), H _ (fun j hj => ?_)⟩)
  · refine pk_eq a 6 (fun e => ?_) (fun e => ?_)
    · subst e
      refine ⟨fun q => ⟨pk_in (w + 1) 4 ((ad_b6 w hw 0 (by omega)).1 q).2.2 (nI_1 w), H _ (fun j hj => ?_)⟩, fun q => H _ (fun j hj => ?_)⟩
      · obtain ⟨t1, t2, t3⟩ := (ad_b6 w hw j hj).1 q
        rw [t2, nI_1, nI_clamp (by omega), hQ (w + 1) j (by omega) t3 hj]
        exact ⟨fun y => ⟨t1, y⟩, fun y => y.2⟩
      · rw [ad_l0]
        exact ⟨fun y => absurd y (by decide), fun y => absurd ((ad_b6 w hw j hj).2 q) y.1⟩
    · have e7 : a = 7 := by omega
      subst e7
      refine ⟨fun q => ⟨pk_in (w + 2) 4 ((ad_b7 w hw 0 (by omega)).1 q).2.2 (ad_i4 w 2), H _ (fun j hj => ?_)⟩, fun q => H _ (fun j hj => ?_)⟩
      · obtain ⟨t1, t2, t3⟩ := (ad_b7 w hw j hj).1 q
        rw [t2, show (2 : Int32) = nI 2 from rfl, nI_add, nI_clamp (by omega), hQ (w + 2) j (by omega) t3 hj]
        exact ⟨fun y => ⟨t1, y⟩, fun y => y.2⟩
      · rw [ad_l0]
        exact ⟨fun y => absurd y (by decide), fun y => absurd ((ad_b7 w hw j hj).2 q) y.1⟩
  · have hp : 2 ^ a < 64 := by
      have := Nat.pow_lt_pow_right (show 1 < 2 by decide) z
      omega
    obtain ⟨t1, t2⟩ := ad_bw hw hj z
    rw [ad_us _ hp (ad_ca a z), ad_la, Bool.and_eq_true, ad_4, nI_clamp (by omega), nI_clamp (by omega)]
    by_cases e : 2 ^ a + j < 64
    · rw [hQ w (2 ^ a + j) (by omega) hw e, hH a w (2 ^ a + j) (by omega) hw e]
      constructor
      · rintro ⟨y1, y2⟩
        have hn : ¬ (64 * w + j).testBit a = true := fun q => t2 q ⟨e, y2⟩
        refine ⟨hn, ?_⟩
        rw [(t1 hn).2.1]
        exact y1
      · rintro ⟨y1, y2⟩
        rw [(t1 y1).2.1] at y2
        exact ⟨y2, (t1 y1).2.2⟩
    · rw [ad_lhi (show 64 ≤ 2 ^ a + j by omega)]
      exact ⟨fun y => absurd y.1 (by decide), fun y => absurd (t1 y.1).1 e⟩
/-- the sets below one of the family, by arguments below a -/
def ad_dc (Q : Nat → Prop) (a s : Nat) : Prop := ∃ t, t < 256 ∧ Q t ∧ ad_sub s t ∧ ∀ i, t.testBit i = true → i < a ∨ s.testBit i = true
theorem ad_dc0 {Q : Nat → Prop} {s : Nat} (hs : s < 256) : Q s ↔ ad_dc Q 0 s := by
  constructor
  · intro h
    exact ⟨s, hs, h, fun _ z => z, fun i hi => Or.inr hi⟩
  · rintro ⟨t, h1, h2, h3, h4⟩
    rw [ad_seq h3 (fun i hi => (h4 i hi).elim (fun z => absurd z (by omega)) id)]
    exact h2
theorem ad_dcS {Q : Nat → Prop} {a s : Nat} : ad_dc Q (a + 1) s ↔ ad_dc Q a s ∨ (¬ s.testBit a = true ∧ ad_dc Q a (s ||| 2 ^ a)) := by
  constructor
  · rintro ⟨t, h1, h2, h3, h4⟩
    by_cases e : t.testBit a = true ∧ ¬ s.testBit a = true
    · refine Or.inr ⟨e.2, t, h1, h2, fun i hi => ?_, fun i hi => ?_⟩
      · rcases ad_ob.mp hi with z | z
        · exact h3 i z
        · rw [ad_2b] at z; exact z ▸ e.1
      · rcases h4 i hi with z | z
        · by_cases q : i = a
          · exact Or.inr (ad_ob.mpr (Or.inr (ad_2b.mpr q.symm)))
          · exact Or.inl (by omega)
        · exact Or.inr (ad_ob.mpr (Or.inl z))
    · refine Or.inl ⟨t, h1, h2, h3, fun i hi => ?_⟩
      rcases h4 i hi with z | z
      · by_cases q : i = a
        · subst q
          by_cases p : s.testBit i = true
          · exact Or.inr p
          · exact absurd ⟨hi, p⟩ e
        · exact Or.inl (by omega)
      · exact Or.inr z
  · rintro (⟨t, h1, h2, h3, h4⟩ | ⟨h0, t, h1, h2, h3, h4⟩)
    · exact ⟨t, h1, h2, h3, fun i hi => (h4 i hi).elim (fun z => Or.inl (by omega)) Or.inr⟩
    · refine ⟨t, h1, h2, fun i hi => h3 i (ad_ob.mpr (Or.inl hi)), fun i hi => ?_⟩
      rcases h4 i hi with z | z
      · exact Or.inl (by omega)
      · rcases ad_ob.mp z with y | y
        · exact Or.inr y
        · rw [ad_2b] at y; exact Or.inl (by omega)
theorem ad_mxi {Q : Nat → Prop} {s : Nat} : (Q s ∧ ∀ c, c < 8 → ¬ (¬ s.testBit c = true ∧ ad_dc Q 8 (s ||| 2 ^ c))) ↔ ad_Mx Q s := by
  constructor
  · rintro ⟨h1, h2⟩
    refine ⟨h1, fun t ht hq hs => ad_seq (fun c hc => ?_) hs⟩
    apply Classical.byContradiction
    intro hn
    refine h2 c (ad_b8 ht hc) ⟨hn, t, ht, hq, fun i hi => ?_, fun i hi => Or.inl (ad_b8 ht hi)⟩
    rcases ad_ob.mp hi with z | z
    · exact hs i z
    · rw [ad_2b] at z; exact z ▸ hc
  · rintro ⟨h1, h2⟩
    refine ⟨h1, ?_⟩
    rintro c _ ⟨hn, t, t1, t2, t3, _⟩
    have e := h2 t t1 t2 (fun i hi => t3 i (ad_ob.mpr (Or.inl hi)))
    apply hn
    rw [← e]
    exact t3 c (ad_ob.mpr (Or.inr (ad_2b.mpr rfl)))
/-- words below w have Q', the others Q -/
def ad_Jw (Q Q' : Nat → Prop) (w : Nat) (b : Nat → Int64) : Prop := ∀ v j, v < 4 → j < 64 → (v < w → (ad_lb (b v) j = true ↔ Q' (64 * v + j))) ∧ (w ≤ v → (ad_lb (b v) j = true ↔ Q (64 * v + j)))
theorem ad_Jw0 {Q Q' : Nat → Prop} {b : Nat → Int64} (h : ad_F b 0 Q) : ad_Jw Q Q' 0 b := fun v j hv hj => ⟨fun z => absurd z (by omega), fun _ => by
  have := h v j hv hj
  rw [Nat.zero_add] at this
  exact this⟩
theorem ad_Jw4 {Q Q' : Nat → Prop} {b : Nat → Int64} (h : ad_Jw Q Q' 4 b) : ad_F b 0 Q' := fun v j hv hj => by
  rw [Nat.zero_add]
  exact (h v j hv hj).1 hv
theorem ad_JwS {Q Q' : Nat → Prop} {w : Nat} {b b' : Nat → Int64} (h : ad_Jw Q Q' w b) (hw : w < 4) (h1 : ∀ j, j < 64 → (ad_lb (b' w) j = true ↔ Q' (64 * w + j))) (h2 : ∀ v, v ≠ w → b' v = b v) : ad_Jw Q Q' (w + 1) b' := by
  intro v j hv hj
  by_cases e : v = w
  · subst e
    exact ⟨fun _ => h1 j hj, fun z => absurd z (by omega)⟩
  · rw [h2 v e]
    exact ⟨fun z => (h v j hv hj).1 (by omega), fun z => (h v j hv hj).2 (by omega)⟩
/-- the last loops of keepGreatest -/
theorem ad_kg3 {post : St1 → Prop} (hH : ad_H a3) {Q : Nat → Prop} (hQ : ad_F a5 0 Q) (hO : ad_F a6 0 (ad_dc Q 8)) (H : ∀ b, ad_F b 0 (ad_Mx Q) → post (f0, f1, f2, a1, a2, a3, a4, b, a6, a7, a8, a9)) : ∃ n, wX_keepGreatest_69 post f0 f1 f2 n 0 a1 a2 a3 a4 a5 a6 a7 a8 a9 := by
  refine pk_loop (fun n i b => wX_keepGreatest_69 post f0 f1 f2 n (nI i) a1 a2 a3 a4 b a6 a7 a8 a9) (ad_Jw Q (fun s => Q s ∧ ∀ c, c < 8 → ¬ (¬ s.testBit c = true ∧ ad_dc Q 8 (s ||| 2 ^ c)))) 4 0 a5 (by omega) (ad_Jw0 hQ) ?_ ?_
  · intro n b h
    exact pk_le 4 4 (fun _ => H b (ad_Fe (ad_Jw4 h) (fun s _ => ad_mxi))) (fun z => absurd z (by omega))
  · intro n w b hw h hk
    refine pk_le 4 w (fun z => absurd z (by omega)) (fun _ => ?_)
    refine pk_loop (fun m i c => wX_keepGreatest_76 post (wX_keepGreatest_69 post f0 f1 f2 n) (nI w) f0 f1 f2 m (nI i) a1 a2 a3 a4 c a6 a7 a8 a9) (fun i c => (∀ v, v ≠ w → c v = b v) ∧ ∀ j, j < 64 → (ad_lb (c w) j = true ↔ Q (64 * w + j) ∧ ∀ d, d < i → ¬ (¬ (64 * w + j).testBit d = true ∧ ad_dc Q 8 ((64 * w + j) ||| 2 ^ d)))) 8 0 b (by omega) ?_ ?_ ?_
    · refine ⟨fun _ _ => rfl, fun j hj => ?_⟩
      rw [(h w j hw hj).2 (Nat.le_refl w)]
      exact ⟨fun z => ⟨z, fun d hd => absurd hd (by omega)⟩, fun z => z.1⟩
    · intro m c hc
      exact pk_le 8 8 (fun _ => nm_r (nI_1 w) (hk _ (ad_JwS h hw hc.2 hc.1))) (fun z => absurd z (by omega))
    · intro m i c hi hc hm
      refine pk_le 8 i (fun z => absurd z (by omega)) (fun _ => ⟨pk_in w 4 hw, ?_⟩)
      refine ad_below (Q := ad_dc Q 8) hH hi hw (fun v j _ hv hj => ?_) (fun x hx => ⟨pk_in w 4 hw, nm_r (e' := vp_updL c w (c w &&& (x ^^^ (-1)))) (by rw [nI_clamp (by omega)]) (nm_r (nI_1 i) (hm _ ⟨fun v hv => ?_, fun j hj => ?_⟩))⟩)
      · have := hO v j hv hj
        rw [Nat.zero_add] at this
        exact this
      · rw [pk_uLn hv]; exact hc.1 v hv
      · rw [pk_uLs, ad_la, Bool.and_eq_true, hc.2 j hj, ad_ln _ hj, ad_nb, hx j hj]
        constructor
        · rintro ⟨⟨z1, z2⟩, z3⟩
          refine ⟨z1, fun d hd => ?_⟩
          by_cases e : d = i
          · rw [e]; exact z3
          · exact z2 d (by omega)
        · rintro ⟨z1, z2⟩
          exact ⟨⟨z1, fun d hd => z2 d (by omega)⟩, z2 i (by omega)⟩
theorem ad_kg2 {post : St1 → Prop} (hH : ad_H a3) {Q : Nat → Prop} (hQ : ad_F a5 0 Q) (hO : ad_F a6 0 Q) (H : ∀ b c, ad_F b 0 (ad_Mx Q) → post (f0, f1, f2, a1, a2, a3, a4, b, c, a7, a8, a9)) : ∃ n, wX_keepGreatest_27 post f0 f1 f2 n 0 a1 a2 a3 a4 a5 a6 a7 a8 a9 := by
  refine pk_loop (fun n i c => wX_keepGreatest_27 post f0 f1 f2 n (nI i) a1 a2 a3 a4 a5 c a7 a8 a9) (fun i c => ad_F c 0 (ad_dc Q i)) 8 0 a6 (by omega) (ad_Fe hO (fun s hs => ad_dc0 hs)) ?_ ?_
  · intro n c h
    exact pk_le 8 8 (fun _ => ad_kg3 hH hQ h (fun b hb => H b c hb)) (fun z => absurd z (by omega))
  · intro n a c ha h hk
    refine pk_le 8 a (fun z => absurd z (by omega)) (fun _ => ?_)
    refine pk_loop (fun m i d => wX_keepGreatest_35 post (wX_keepGreatest_27 post f0 f1 f2 n) (nI a) f0 f1 f2 m (nI i) a1 a2 a3 a4 a5 d a7 a8 a9) (ad_Jw (ad_dc Q a) (ad_dc Q (a + 1))) 4 0 c (by omega) (ad_Jw0 h) ?_ ?_
    · intro m d hd
      exact pk_le 4 4 (fun _ => nm_r (nI_1 a) (hk _ (ad_Jw4 hd))) (fun z => absurd z (by omega))
    · intro m w d hw hd hm
      refine pk_le 4 w (fun z => absurd z (by omega)) (fun _ => ⟨pk_in w 4 hw, ?_⟩)
      refine ad_below (Q := ad_dc Q a) hH ha hw (fun v j hwv hv hj => (hd v j hv hj).2 hwv) (fun x hx => ⟨pk_in w 4 hw, nm_r (e' := vp_updL d w (d w ||| x)) (by rw [nI_clamp (by omega)]) (nm_r (nI_1 w) (hm _ (ad_JwS hd hw (fun j hj => ?_) (fun v hv => pk_uLn hv))))⟩)
      rw [pk_uLs, ad_lo, Bool.or_eq_true, (hd w j hw hj).2 (Nat.le_refl w), hx j hj, ad_dcS]
theorem ad_keep {post : St1 → Prop} (hH : ad_H a3) {Q : Nat → Prop} (hQ : ad_F a5 0 Q) (H : ∀ b c, ad_F b 0 (ad_Mx Q) → post (f0, f1, f2, a1, a2, a3, a4, b, c, a7, a8, a9)) : wpX_keepGreatest post (f0, f1, f2, a1, a2, a3, a4, a5, a6, a7, a8, a9) := by
  refine pk_loop (fun n i c => wX_keepGreatest_2 post f0 f1 f2 n (nI i) a1 a2 a3 a4 a5 c a7 a8 a9) (ad_Iw 0 Q a6) 4 0 a6 (by omega) ad_Iw0 ?_ ?_
  · intro n c h
    exact pk_le 4 4 (fun _ => ad_kg2 hH hQ (ad_IwF h) H) (fun z => absurd z (by omega))
  · intro n w c hw h hk
    refine pk_le 4 w (fun z => absurd z (by omega)) (fun _ => ⟨pk_in w 4 hw, pk_in w 4 hw, nm_r (e' := vp_updL c (0 + w) (a5 (0 + w))) (by rw [nI_clamp (by omega), Nat.zero_add]) (nm_r (nI_1 w) (hk _ (ad_IwS h (fun j hj => hQ w j hw hj))))⟩)
theorem ad_great {post : St1 → Prop} (hH : ad_H a3) {Q : Nat → Prop} {o o' : Nat} (ho : o + 4 ≤ 48) (ho' : o' + 4 ≤ 48) (hQ : ad_F a4 o Q) (H : ∀ b c d, ad_F b o' (ad_Mx Q) → ad_kp o' a4 b → post (f0, f1, f2, a1, a2, a3, b, c, d, a7, a8, a9)) {x y : Int32} (hx : x = nI o := by rfl) (hy : y = nI o' := by rfl) : wpX_greatestOf post (f0, f1, f2, a1, a2, a3, a4, a5, a6, a7, a8, a9) x y := by
  subst hx hy
  refine pk_loop (fun n i c => wX_greatestOf_2 post (nI o) (nI o') f0 f1 f2 n (nI i) a1 a2 a3 a4 c a6 a7 a8 a9) (ad_Iw 0 Q a5) 4 0 a5 (by omega) ad_Iw0 ?_ ?_
  · intro n c h
    refine pk_le 4 4 (fun _ => ad_keep hH (ad_IwF h) (fun c' d hc => ?_)) (fun z => absurd z (by omega))
    refine pk_loop (fun m i b => wX_greatestOf_33 post (nI o') f0 f1 f2 m (nI i) a1 a2 a3 b c' d a7 a8 a9) (ad_Iw o' (ad_Mx Q) a4) 4 0 a4 (by omega) ad_Iw0 ?_ ?_
    · intro m b hb
      exact pk_le 4 4 (fun _ => H b c' d (ad_IwF hb) (ad_IwK hb)) (fun z => absurd z (by omega))
    · intro m w b hw hb hm
      refine pk_le 4 w (fun z => absurd z (by omega)) (fun _ => ⟨pk_in w 4 hw, pk_in (o' + w) 48 (by omega) (ad_i4 o' w), nm_r (e' := vp_updL b (o' + w) (c' (0 + w))) (by rw [nI_add, nI_clamp (by omega), nI_clamp (by omega), Nat.zero_add]) (nm_r (nI_1 w) (hm _ (ad_IwS hb (fun j hj => hc w j hw hj))))⟩)
  · intro n w c hw h hk
    refine pk_le 4 w (fun z => absurd z (by omega)) (fun _ => ⟨pk_in (o + w) 48 (by omega) (ad_i4 o w), pk_in w 4 hw, nm_r (e' := vp_updL c (0 + w) (a4 (o + w))) (by rw [nI_add, nI_clamp (by omega), nI_clamp (by omega), Nat.zero_add]) (nm_r (nI_1 w) (hk _ (ad_IwS h (fun j hj => hQ w j hw hj))))⟩)
theorem ad_takeG {post : St1 → Prop} (hH : ad_H a3) {Q : Nat → Prop} {k m : Nat} (hk : k < 12) (hm : m < 12) (hQ : ad_F a4 (4 * m) Q) (H : ∀ b c d, ad_F b (4 * k) (ad_Mx Q) → ad_kp (4 * k) a4 b → post (f0, f1, f2, a1, a2, a3, b, c, d, a7, a8, a9)) {x y : Int32} (hx : x = nI k := by rfl) (hy : y = nI m := by rfl) : wpX_takeGreatest post (f0, f1, f2, a1, a2, a3, a4, a5, a6, a7, a8, a9) x y := by
  subst hx hy
  exact ad_great hH (by omega) (by omega) hQ H (by rw [show (4 : Int32) = nI 4 from rfl, pk_mul]) (by rw [show (4 : Int32) = nI 4 from rfl, pk_mul])
end
end
section
/-! ===== the walk: reaches and cores ===== -/
/-- set s is in the family of sense k -/
def ad_mm (a4 : Nat → Int64) (k s : Nat) : Prop := ad_lb (a4 (4 * k + s / 64)) (s % 64) = true
theorem ad_mmF {a : Nat → Int64} {k s : Nat} {Q : Nat → Prop} (h : ad_F a (4 * k) Q) (hs : s < 256) : ad_mm a k s ↔ Q s := by
  unfold ad_mm
  rw [h (s / 64) (s % 64) (by omega) (by omega), Nat.div_add_mod]
theorem ad_Fmm (a : Nat → Int64) (k : Nat) : ad_F a (4 * k) (ad_mm a k) := by
  intro w j hw hj
  unfold ad_mm
  rw [show (64 * w + j) / 64 = w by omega, show (64 * w + j) % 64 = j by omega]
theorem ad_Fset {b : Nat → Int64} {o r : Nat} {Q : Nat → Prop} (h : ad_F b o Q) (hr : r < 256) : ad_F (vp_updL b (o + r / 64) (b (o + r / 64) ||| ((1 : Int64) <<< ((nI r &&& 63).toInt64 &&& 63)))) o (fun s => Q s ∨ s = r) := by
  intro w j hw hj
  by_cases e : w = r / 64
  · rw [← e, pk_uLs, ad_lo, Bool.or_eq_true, h w j hw hj, ad_l1 hr, decide_eq_true_eq]
    have : r % 64 = j ↔ 64 * w + j = r := by omega
    rw [this]
  · rw [pk_uLn (by omega), h w j hw hj]
    have : ¬ 64 * w + j = r := by omega
    exact ⟨Or.inl, fun z => z.elim id (fun y => absurd y this)⟩
section
variable {P : Nat} {A B : Nat → Nat} {f0 f1 f2 : Int32} {a1 a2 : Nat → Int32} {a3 a4 a5 a6 a7 : Nat → Int64} {a8 a9 : Nat → Int32}
theorem ad_mem {post : Int32 → Prop} {k s : Nat} (hk : k < 12) (hs : s < 256) (h0 : ¬ ad_mm a4 k s → post 0) (h1 : ad_mm a4 k s → post 1) {x y : Int32} (hx : x = nI k := by rfl) (hy : y = nI s := by rfl) : wpX_isInFamily post (f0, f1, f2, a1, a2, a3, a4, a5, a6, a7, a8, a9) x y := by
  subst hx hy
  have hi : 4 * nI k + nI s >>> ((6 : Int32) &&& 31) = nI (4 * k + s / 64) := by rw [ad_s6 (by omega), ad_4]
  refine ⟨pk_in (4 * k + s / 64) 48 (by omega) hi, fun z => h0 ?_, fun z => h1 ?_⟩
  · rw [hi, nI_clamp (by omega), ad_lt _ hs] at z
    unfold ad_mm
    rw [z]; decide
  · rw [hi, nI_clamp (by omega), ad_lt _ hs] at z
    unfold ad_mm
    revert z
    cases ad_lb (a4 (4 * k + s / 64)) (s % 64) <;> simp
theorem ad_memb {X Y : Prop} {k s : Nat} (hk : k < 12) (hs : s < 256) (h0 : ¬ ad_mm a4 k s → X) (h1 : ad_mm a4 k s → Y) {x y : Int32} (hx : x = nI k := by rfl) (hy : y = nI s := by rfl) : wpX_isInFamily (fun r => (r = 0 → X) ∧ (¬ r = 0 → Y)) (f0, f1, f2, a1, a2, a3, a4, a5, a6, a7, a8, a9) x y :=
  ad_mem hk hs (fun z => br_t rfl (h0 z)) (fun z => br_f (by decide) (h1 z)) hx hy
theorem ad_reach {post : Int32 → Prop} (h1 : ∀ i, i < 8 → a1 i = nI (A i)) {s : Nat} (hs : s < 256) (H : post (nI (ad_re A s))) {x : Int32} (hx : x = nI s := by rfl) : wpX_reachOf post (f0, f1, f2, a1, a2, a3, a4, a5, a6, a7, a8, a9) x := by
  subst hx
  refine ad_from h1 hs ?_
  show post (nI s ||| nI (ad_AF A s))
  rw [ad_or]
  exact H
theorem ad_re8 (ok : ad_OK P A) {s : Nat} (hs : s < 256) : ad_re A s < 256 := ad_or8 hs (ad_AF8 ok s)
/-- the last loops of takeWidest -/
theorem ad_tw3 {post : St1 → Prop} (ok : ad_OK P A) (h1 : ∀ i, i < 8 → a1 i = nI (A i)) {k m : Nat} (hk : k < 12) (hm : m < 12) (hkm : k ≠ m) {Q R : Nat → Prop} (hQ : ad_F a4 (4 * m) Q) (h0 : ad_F a4 (4 * k) (fun _ => False)) (hR : ad_F a7 0 R) (H : ∀ b, ad_F b (4 * k) (fun s => Q s ∧ R (ad_re A s)) → ad_kp (4 * k) a4 b → post (f0, f1, f2, a1, a2, a3, b, a5, a6, a7, a8, a9)) : ∃ n, wX_takeWidest_116 post (nI k) (nI m) f0 f1 f2 n 0 a1 a2 a3 a4 a5 a6 a7 a8 a9 := by
  refine pk_loop (fun n i b => wX_takeWidest_116 post (nI k) (nI m) f0 f1 f2 n (nI i) a1 a2 a3 b a5 a6 a7 a8 a9) (fun i b => ad_F b (4 * k) (fun s => s < i ∧ Q s ∧ R (ad_re A s)) ∧ ad_kp (4 * k) a4 b) 256 0 a4 (by omega) ⟨ad_Fe h0 (fun s _ => ⟨fun z => z.elim, fun z => absurd z.1 (by omega)⟩), fun _ _ => rfl⟩ ?_ ?_
  · intro n b h
    exact pk_le 256 256 (fun _ => H b (ad_Fe h.1 (fun s hs => ⟨fun z => z.2, fun z => ⟨hs, z⟩⟩)) h.2) (fun z => absurd z (by omega))
  · intro n i b hi h hw
    have hQb : ad_F b (4 * m) Q := ad_Fk hQ h.2 (by omega)
    have skip : ¬ (Q i ∧ R (ad_re A i)) → ad_F b (4 * k) (fun s => s < i + 1 ∧ Q s ∧ R (ad_re A s)) := fun hn => ad_Fe h.1 (fun s _ => ⟨fun z => ⟨by omega, z.2⟩, fun z => ⟨by
      have : s ≠ i := fun e => hn (e ▸ z.2)
      omega, z.2⟩⟩)
    refine pk_le 256 i (fun z => absurd z (by omega)) (fun _ => ad_memb hm hi (fun e => ?_) (fun e => ?_))
    · rw [ad_mmF hQb hi] at e
      exact nm_r (nI_1 i) (hw _ ⟨skip (fun z => e z.1), h.2⟩)
    · rw [ad_mmF hQb hi] at e
      refine ad_reach h1 hi ?_
      have h8 := ad_re8 ok hi
      have hi6 : nI (ad_re A i) >>> ((6 : Int32) &&& 31) = nI (ad_re A i / 64) := ad_s6 (by omega)
      have hRi := hR (ad_re A i / 64) (ad_re A i % 64) (by omega) (by omega)
      rw [Nat.zero_add, Nat.div_add_mod] at hRi
      refine ⟨pk_in (ad_re A i / 64) 4 (by omega) hi6, ?_⟩
      rw [hi6, nI_clamp (by omega), ad_lt _ h8]
      refine ⟨fun z => ?_, fun z => ?_⟩
      · refine nm_r (nI_1 i) (hw _ ⟨skip (fun y => ?_), h.2⟩)
        have := hRi.mpr y.2
        rw [z] at this
        exact absurd this (by decide)
      · have hRt : R (ad_re A i) := hRi.mp (by
          revert z
          cases ad_lb (a7 (ad_re A i / 64)) (ad_re A i % 64) <;> simp)
        have hk6 : 4 * nI k + nI i >>> ((6 : Int32) &&& 31) = nI (4 * k + i / 64) := by rw [ad_s6 (by omega), ad_4]
        refine ⟨pk_in (4 * k + i / 64) 48 (by omega) hk6, pk_in (4 * k + i / 64) 48 (by omega) hk6, nm_r (e' := vp_updL b (4 * k + i / 64) (b (4 * k + i / 64) ||| ((1 : Int64) <<< ((nI i &&& 63).toInt64 &&& 63)))) (by rw [hk6, nI_clamp (by omega)]) (nm_r (nI_1 i) (hw _ ⟨ad_Fe (ad_Fset h.1 hi) (fun s _ => ?_), fun v hv => ?_⟩))⟩
        · constructor
          · rintro (z | z)
            · exact ⟨by omega, z.2⟩
            · subst z; exact ⟨by omega, e, hRt⟩
          · rintro ⟨z1, z2⟩
            by_cases q : s = i
            · exact Or.inr q
            · exact Or.inl ⟨by omega, z2⟩
        · rw [pk_uLn (by omega)]; exact h.2 v hv
theorem ad_wdi (ok : ad_OK P A) {Q : Nat → Prop} {s : Nat} (hs : s < 256) : (Q s ∧ ad_Mx (fun r => ∃ t, t < 256 ∧ Q t ∧ ad_re A t = r) (ad_re A s)) ↔ ad_Wd A Q s := by
  constructor
  · rintro ⟨h1, _, h2⟩
    exact ⟨h1, fun t ht hq hr => h2 (ad_re A t) (ad_re8 ok ht) ⟨t, ht, hq, rfl⟩ hr⟩
  · rintro ⟨h1, h2⟩
    refine ⟨h1, ⟨s, hs, h1, rfl⟩, ?_⟩
    rintro r _ ⟨t, t1, t2, t3⟩ hr
    subst t3
    exact h2 t t1 t2 hr
theorem ad_takeW {post : St1 → Prop} (ok : ad_OK P A) (hH : ad_H a3) (h1 : ∀ i, i < 8 → a1 i = nI (A i)) {k m : Nat} (hk : k < 12) (hm : m < 12) (hkm : k ≠ m) {Q : Nat → Prop} (hQ : ad_F a4 (4 * m) Q) (H : ∀ b c d e, ad_F b (4 * k) (ad_Wd A Q) → ad_kp (4 * k) a4 b → post (f0, f1, f2, a1, a2, a3, b, c, d, e, a8, a9)) {x y : Int32} (hx : x = nI k := by rfl) (hy : y = nI m := by rfl) : wpX_takeWidest post (f0, f1, f2, a1, a2, a3, a4, a5, a6, a7, a8, a9) x y := by
  subst hx hy
  refine pk_loop (fun n i c => wX_takeWidest_2 post (nI k) (nI m) f0 f1 f2 n (nI i) a1 a2 a3 a4 c a6 a7 a8 a9) (ad_Iw 0 (fun _ => False) a5) 4 0 a5 (by omega) ad_Iw0 ?_ ?_
  · intro n c h
    refine pk_le 4 4 (fun _ => ?_) (fun z => absurd z (by omega))
    refine pk_loop (fun n i c => wX_takeWidest_22 post (nI k) (nI m) f0 f1 f2 n (nI i) a1 a2 a3 a4 c a6 a7 a8 a9) (fun i c => ad_F c 0 (fun r => ∃ t, t < i ∧ Q t ∧ ad_re A t = r)) 256 0 c (by omega) (ad_Fe (ad_IwF h) (fun s _ => ⟨fun z => z.elim, fun ⟨t, ht, _⟩ => absurd ht (by omega)⟩)) ?_ ?_
    · intro n c hc
      refine pk_le 256 256 (fun _ => ad_keep hH hc (fun c' d hc' => ?_)) (fun z => absurd z (by omega))
      refine pk_loop (fun n i (s : (Nat → Int64) × (Nat → Int64)) => wX_takeWidest_80 post (nI k) (nI m) f0 f1 f2 n (nI i) a1 a2 a3 s.1 c' d s.2 a8 a9) (fun i s => ad_Iw (4 * k) (fun _ => False) a4 i s.1 ∧ ad_Iw 0 (ad_Mx (fun r => ∃ t, t < 256 ∧ Q t ∧ ad_re A t = r)) a7 i s.2) 4 0 (a4, a7) (by omega) ⟨ad_Iw0, ad_Iw0⟩ ?_ ?_
      · intro n s hs
        refine pk_le 4 4 (fun _ => ad_tw3 ok h1 hk hm hkm (ad_Fk hQ (ad_IwK hs.1) (by omega)) (ad_IwF hs.1) (ad_IwF hs.2) (fun b hb hkb => H b c' d s.2 (ad_Fe hb (fun t ht => ad_wdi ok ht)) (ad_kpt (ad_IwK hs.1) hkb))) (fun z => absurd z (by omega))
      · intro n w s hw hs hn
        refine pk_le 4 w (fun z => absurd z (by omega)) (fun _ => ⟨pk_in w 4 hw, pk_in w 4 hw, nm_r (e' := vp_updL s.2 (0 + w) (c' (0 + w))) (by rw [nI_clamp (by omega), Nat.zero_add]) ⟨pk_in (4 * k + w) 48 (by omega) (ad_4 k w), nm_r (e' := vp_updL s.1 (4 * k + w) 0) (by rw [ad_4, nI_clamp (by omega)]) (nm_r (nI_1 w) (hn (_, _) ⟨ad_IwS hs.1 (fun j hj => ?_), ad_IwS hs.2 (fun j hj => hc' w j hw hj)⟩))⟩⟩)
        rw [ad_l0]
        exact ⟨fun z => absurd z (by decide), fun z => z.elim⟩
    · intro n i c hi hc hn
      refine pk_le 256 i (fun z => absurd z (by omega)) (fun _ => ad_memb hm hi (fun e => ?_) (fun e => ?_))
      · rw [ad_mmF hQ hi] at e
        exact nm_r (nI_1 i) (hn _ (ad_Fe hc (fun s _ => ⟨fun ⟨t, t1, t2⟩ => ⟨t, by omega, t2⟩, fun ⟨t, t1, t2⟩ => ⟨t, by
          have : t ≠ i := fun q => e (q ▸ t2.1)
          omega, t2⟩⟩)))
      · rw [ad_mmF hQ hi] at e
        refine ad_reach h1 hi ?_
        have h8 := ad_re8 ok hi
        have hi6 : nI (ad_re A i) >>> ((6 : Int32) &&& 31) = nI (ad_re A i / 64) := ad_s6 (by omega)
        refine ⟨pk_in (ad_re A i / 64) 4 (by omega) hi6, pk_in (ad_re A i / 64) 4 (by omega) hi6, nm_r (e' := vp_updL c (0 + ad_re A i / 64) (c (0 + ad_re A i / 64) ||| ((1 : Int64) <<< ((nI (ad_re A i) &&& 63).toInt64 &&& 63)))) (by rw [hi6, nI_clamp (by omega), Nat.zero_add]) (nm_r (nI_1 i) (hn _ (ad_Fe (ad_Fset hc h8) (fun s _ => ?_))))⟩
        constructor
        · rintro (⟨t, t1, t2⟩ | z)
          · exact ⟨t, by omega, t2⟩
          · exact ⟨i, by omega, e, z.symm⟩
        · rintro ⟨t, t1, t2, t3⟩
          by_cases q : t = i
          · subst q; exact Or.inr t3.symm
          · exact Or.inl ⟨t, by omega, t2, t3⟩
  · intro n w c hw h hn
    refine pk_le 4 w (fun z => absurd z (by omega)) (fun _ => ⟨pk_in w 4 hw, nm_r (e' := vp_updL c (0 + w) 0) (by rw [nI_clamp (by omega), Nat.zero_add]) (nm_r (nI_1 w) (hn _ (ad_IwS h (fun j hj => ?_))))⟩)
    rw [ad_l0]
    exact ⟨fun z => absurd z (by decide), fun z => z.elim⟩
theorem ad_meets {post : Int32 → Prop} {k a : Nat} {t : Int64} (hk : k < 12) (ha : a < 8) (h0 : post 0) (h1 : post 1) : wpX_meets post (f0, f1, f2, a1, a2, a3, a4, a5, a6, a7, a8, a9) (nI k) (nI a) t := by
  refine pk_loop (σ := Unit) (fun n i _ => wX_meets_3 post (nI k) (nI a) t f0 f1 f2 a1 a2 a3 a4 a5 a6 a7 a8 a9 n (nI i)) (fun _ _ => True) 4 0 () (by omega) trivial ?_ ?_
  · intro n _ _
    exact pk_le 4 4 (fun _ => h0) (fun z => absurd z (by omega))
  · intro n i _ hi _ hw
    exact pk_le 4 i (fun z => absurd z (by omega)) (fun _ => ⟨pk_in (4 * k + i) 48 (by omega) (ad_4 k i), pk_in (4 * a + i) 32 (by omega) (ad_4 a i), fun _ => nm_r (nI_1 i) (hw () trivial), fun _ => h1⟩)
theorem ad_common {post : Int32 → Prop} {k : Nat} (hk : k < 12) (H : ∀ r, post r) {x : Int32} (hx : x = nI k := by rfl) : wpX_commonOf post (f0, f1, f2, a1, a2, a3, a4, a5, a6, a7, a8, a9) x := by
  subst hx
  refine pk_loop (fun n i x => wX_commonOf_7 post (nI k) f0 f1 f2 a1 a2 a3 a4 a5 a6 a7 a8 a9 n x (nI i)) (fun _ _ => True) 8 0 f0 (by omega) trivial ?_ ?_
  · intro n x _
    exact pk_le 8 8 (fun _ => H x) (fun z => absurd z (by omega))
  · intro n i x hi _ hw
    exact pk_le 8 i (fun z => absurd z (by omega)) (fun _ => ad_meets hk hi (br_t rfl (nm_r (nI_1 i) (hw _ trivial))) (br_f (by decide) (nm_e (nm_r (nI_1 i) (hw _ trivial)))))
theorem ad_of32 (x : Int32) : ∃ n, x = nI n := ⟨x.toBitVec.toNat, Int32.toBitVec_inj.mp (by show _ = BitVec.ofNat 32 _; simp)⟩
theorem ad_within {post : St1 → Prop} (hH : ad_H a3) {k m : Nat} (hk : k < 12) (hm : m < 12) (hF : ad_F a4 4 (ad_Ad P A)) (H : ∀ b c d, (∃ s, s < 256 ∧ ad_mm b k s) → ad_kp (4 * k) a4 b → post (f0, f1, f2, a1, a2, a3, b, c, d, a7, a8, a9)) {x y : Int32} (hx : x = nI k := by rfl) (hy : y = nI m := by rfl) : wpX_takeWithin post (f0, f1, f2, a1, a2, a3, a4, a5, a6, a7, a8, a9) x y := by
  subst hx hy
  refine ad_common hm (fun r => ?_)
  obtain ⟨z, rfl⟩ := ad_of32 r
  refine pk_loop (fun n i c => wX_takeWithin_9 post (nI k) (nI z) f0 f1 f2 n (nI i) a1 a2 a3 a4 c a6 a7 a8 a9) (ad_Iw 0 (fun s => ad_Ad P A s ∧ ¬ ∃ a, (ad_sd 255 z).testBit a = true ∧ s.testBit a = true) a5) 4 0 a5 (by omega) ad_Iw0 ?_ ?_
  · intro n c h
    refine pk_le 4 4 (fun _ => ad_keep hH (ad_IwF h) (fun c' d hc => ?_)) (fun z => absurd z (by omega))
    refine pk_loop (fun m i b => wX_takeWithin_62 post (nI k) f0 f1 f2 m (nI i) a1 a2 a3 b c' d a7 a8 a9) (ad_Iw (4 * k) (ad_Mx (fun s => ad_Ad P A s ∧ ¬ ∃ a, (ad_sd 255 z).testBit a = true ∧ s.testBit a = true)) a4) 4 0 a4 (by omega) ad_Iw0 ?_ ?_
    · intro m b hb
      refine pk_le 4 4 (fun _ => H b c' d ?_ (ad_IwK hb)) (fun z => absurd z (by omega))
      obtain ⟨s, s1, s2⟩ := ad_mx (Q := fun s => ad_Ad P A s ∧ ¬ ∃ a, (ad_sd 255 z).testBit a = true ∧ s.testBit a = true) ⟨0, by decide, ad_ad0 P A, fun ⟨a, _, y⟩ => ad_b0 a y⟩
      exact ⟨s, s1, (ad_mmF (ad_IwF hb) s1).mpr s2⟩
    · intro m w b hw hb hm
      refine pk_le 4 w (fun z => absurd z (by omega)) (fun _ => ⟨pk_in w 4 hw, pk_in (4 * k + w) 48 (by omega) (ad_4 k w), nm_r (e' := vp_updL b (4 * k + w) (c' (0 + w))) (by rw [ad_4, nI_clamp (by omega), nI_clamp (by omega), Nat.zero_add]) (nm_r (nI_1 w) (hm _ (ad_IwS hb (fun j hj => hc w j hw hj))))⟩)
  · intro n w c hw h hn
    refine pk_le 4 w (fun z => absurd z (by omega)) (fun _ => ⟨pk_in (4 + w) 48 (by omega) (ad_i4 4 w), ?_⟩)
    refine ad_hit (z := ad_sd 255 z) hH (ad_sd8 (by decide)) hw (fun v hv => ⟨pk_in w 4 hw, nm_r (e' := vp_updL c (0 + w) (a4 (4 + w) &&& (v ^^^ (-1)))) (by rw [show (4 : Int32) = nI 4 from rfl, nI_add, nI_clamp (by omega), nI_clamp (by omega), Nat.zero_add]) (nm_r (nI_1 w) (hn _ (ad_IwS h (fun j hj => ?_))))⟩) (ad_nand 255 z)
    rw [ad_la, Bool.and_eq_true, hF w j hw hj, ad_ln _ hj, ad_nb, hv j hj]
end
end
section
/-! ===== the walk: ways, parts, groups ===== -/
section
variable {P : Nat} {A B : Nat → Nat} {f0 f1 f2 : Int32} {a1 a2 : Nat → Int32} {a3 a4 a5 a6 a7 : Nat → Int64} {a8 a9 : Nat → Int32}
theorem ad_wcc {g c : Nat} : ad_w A g (c + 1) c = ad_w A g c c := by
  show (if (ad_w A g c c).testBit c = true then ad_w A g c c ||| ad_w A g c c else ad_w A g c c) = ad_w A g c c
  rw [Nat.or_self]
  split <;> rfl
theorem ad_wys {post : St1 → Prop} {g : Nat} (hg : g < 256) (h9 : ∀ i, i < 8 → a9 i = nI (ad_w A g 0 i)) (H : ∀ b, (∀ i, i < 8 → b i = nI (ad_w A g 8 i)) → post (f0, f1, f2, a1, a2, a3, a4, a5, a6, a7, a8, b)) : ∃ n, wX_findWays_48 post f0 f1 f2 n 0 a1 a2 a3 a4 a5 a6 a7 a8 a9 := by
  refine pk_loop (fun n i b => wX_findWays_48 post f0 f1 f2 n (nI i) a1 a2 a3 a4 a5 a6 a7 a8 b) (fun c b => ∀ i, i < 8 → b i = nI (ad_w A g c i)) 8 0 a9 (by omega) h9 ?_ ?_
  · intro n b h
    exact pk_le 8 8 (fun _ => H b h) (fun z => absurd z (by omega))
  · intro n c b hc h hk
    refine pk_le 8 c (fun z => absurd z (by omega)) (fun _ => ?_)
    refine pk_loop (fun m i d => wX_findWays_56 post (wX_findWays_48 post f0 f1 f2 n) (nI c) f0 f1 f2 m (nI i) a1 a2 a3 a4 a5 a6 a7 a8 d) (fun a d => ∀ i, i < 8 → d i = nI (if i < a then ad_w A g (c + 1) i else ad_w A g c i)) 8 0 b (by omega) ?_ ?_ ?_
    · intro i hi
      rw [if_neg (by omega)]
      exact h i hi
    · intro m d hd
      refine pk_le 8 8 (fun _ => nm_r (nI_1 c) (hk _ (fun i hi => ?_))) (fun z => absurd z (by omega))
      rw [hd i hi, if_pos hi]
    · intro m a d ha hd hm
      have ea : d a = nI (ad_w A g c a) := by rw [hd a ha, if_neg (by omega)]
      have ec : d c = nI (ad_w A g c c) := by
        rw [hd c hc]
        split
        · rw [ad_wcc]
        · rfl
      refine pk_le 8 a (fun z => absurd z (by omega)) (fun _ => ⟨pk_in a 8 ha, ?_⟩)
      refine ad_inb (ad_w A g c a) c (fun e => ?_) (fun e => ⟨pk_in a 8 ha, pk_in c 8 hc, pk_in a 8 ha, ?_⟩) (ad_w8 hg c a) hc (by rw [nI_clamp (by omega), ea])
      · refine nm_r (nI_1 a) (hm _ (fun i hi => ?_))
        by_cases q : i = a
        · rw [q, if_pos (by omega), ea]
          exact congrArg nI (if_neg (ad_nt e)).symm
        · rw [hd i hi]
          by_cases q2 : i < a
          · rw [if_pos q2, if_pos (by omega)]
          · rw [if_neg q2, if_neg (by omega)]
      · refine nm_r (e' := upd d a (nI (ad_w A g (c + 1) a))) ?_ (nm_r (nI_1 a) (hm _ (fun i hi => ?_)))
        · rw [nI_clamp (by omega), nI_clamp (by omega), ea, ec, ad_or, ad_sh _ (ad_or8 (ad_w8 hg c a) (ad_w8 hg c c))]
          have : ad_w A g (c + 1) a = ad_w A g c a ||| ad_w A g c c := if_pos e
          rw [this]
        · by_cases q : i = a
          · rw [q, pk_us, if_pos (by omega)]
          · rw [pk_un q, hd i hi]
            by_cases q2 : i < a
            · rw [if_pos q2, if_pos (by omega)]
            · rw [if_neg q2, if_neg (by omega)]
theorem ad_ways {post : St1 → Prop} (h1 : ∀ i, i < 8 → a1 i = nI (A i)) {g : Nat} (hg : g < 256) (H : ∀ b, (∀ i, i < 8 → b i = nI (ad_w A g 8 i)) → post (f0, f1, f2, a1, a2, a3, a4, a5, a6, a7, a8, b)) {x : Int32} (hx : x = nI g := by rfl) : wpX_findWays post (f0, f1, f2, a1, a2, a3, a4, a5, a6, a7, a8, a9) x := by
  subst hx
  refine pk_loop (fun n i b => wX_findWays_2 post (nI g) f0 f1 f2 n (nI i) a1 a2 a3 a4 a5 a6 a7 a8 b) (fun a b => ∀ i, i < a → b i = nI (ad_w A g 0 i)) 8 0 a9 (by omega) (fun i hi => absurd hi (by omega)) ?_ ?_
  · intro n b h
    exact pk_le 8 8 (fun _ => ad_wys hg h H) (fun z => absurd z (by omega))
  · intro n a b ha h hk
    have put : ∀ x, x = nI (ad_w A g 0 a) → ∀ i, i < a + 1 → upd b a x i = nI (ad_w A g 0 i) := by
      intro x hx i hi
      by_cases q : i = a
      · rw [q, pk_us, hx]
      · rw [pk_un q]; exact h i (by omega)
    refine pk_le 8 a (fun z => absurd z (by omega)) (fun _ => ad_inb g a (fun e => ⟨pk_in a 8 ha, ?_⟩) (fun e => ⟨pk_in a 8 ha, pk_in a 8 ha, ?_⟩) hg ha)
    · refine nm_r (e' := upd b a (nI 0)) (by rw [nI_clamp (by omega)]; rfl) (nm_r (nI_1 a) (hk _ (put _ ?_)))
      exact congrArg nI (if_neg (ad_nt e)).symm
    · refine nm_r (e' := upd b a (nI ((A a &&& g) ||| 2 ^ a))) ?_ (nm_r (nI_1 a) (hk _ (put _ ?_)))
      · have h8 : (A a &&& g) ||| 2 ^ a < 256 := ad_or8 (Nat.lt_of_le_of_lt Nat.and_le_right hg) (ad_p8 ha)
        rw [nI_clamp (by omega), h1 a ha, ad_and, ad_1s a ha, ad_or, ad_sh _ h8]
      · exact congrArg nI (if_pos e).symm
theorem ad_ptt {g l i : Nat} (e : g.testBit i = true ∧ (ad_w A g 8 l).testBit i = true ∧ (ad_w A g 8 i).testBit l = true) : ad_pt A g l (i + 1) = ad_pt A g l i ||| 2 ^ i := if_pos e
theorem ad_ptf {g l i : Nat} (e : ¬ (g.testBit i = true ∧ (ad_w A g 8 l).testBit i = true ∧ (ad_w A g 8 i).testBit l = true)) : ad_pt A g l (i + 1) = ad_pt A g l i := if_neg e
theorem ad_part {post : Int32 → Prop} {l g : Nat} (hl : l < 256) (hg : g < 256) (h9 : ∀ i, i < 8 → a9 i = nI (ad_w A g 8 i)) (H0 : l = 0 → post 0) (H : ∀ i, l.testBit i = true → post (nI (ad_PT A g i))) {x y : Int32} (hx : x = nI l := by rfl) (hy : y = nI g := by rfl) : wpX_partOf post (f0, f1, f2, a1, a2, a3, a4, a5, a6, a7, a8, a9) x y := by
  subst hx hy
  refine pk_eq l 0 H0 (fun z => ?_)
  obtain ⟨e, he, hlow⟩ := pk_least (fun i => l.testBit i = true) (ad_ne0 z)
  have he8 := ad_b8 hl he
  refine pk_loop (σ := Unit) (fun n i _ => wX_partOf_8 post (nI l) (nI g) f0 f1 f2 a1 a2 a3 a4 a5 a6 a7 a8 a9 n (nI i)) (fun _ _ => True) e 0 () (by omega) trivial ?_ ?_
  · intro n _ _
    refine ad_inb (u := (f0, f1, f2, a1, a2, a3, a4, a5, a6, a7, a8, a9)) l e (fun q => absurd he (ad_nt q)) (fun _ => ?_) hl he8
    refine pk_loop (fun n i x => wX_partOf_29 post (nI g) (nI e) f0 f1 f2 a1 a2 a3 a4 a5 a6 a7 a8 a9 n x (nI i)) (fun i x => x = nI (ad_pt A g e i)) 8 0 0 (by omega) rfl ?_ ?_
    · intro n x h
      exact pk_le 8 8 (fun _ => by rw [h]; exact H e he) (fun z => absurd z (by omega))
    · intro n i x hi h hw
      refine pk_le 8 i (fun z => absurd z (by omega)) (fun _ => ad_inb g i (fun q => ?_) (fun q => ⟨pk_in e 8 he8, ?_⟩) hg hi)
      · exact nm_r (nI_1 i) (hw _ (by rw [h, ad_ptf (fun t => ad_nt q t.1)]))
      · refine ad_inb (ad_w A g 8 e) i (fun q2 => ?_) (fun q2 => ⟨pk_in i 8 hi, ?_⟩) (ad_w8 hg 8 e) hi (by rw [nI_clamp (by omega), h9 e he8])
        · exact nm_r (nI_1 i) (hw _ (by rw [h, ad_ptf (fun t => ad_nt q2 t.2.1)]))
        · refine ad_inb (ad_w A g 8 i) e (fun q3 => ?_) (fun q3 => ?_) (ad_w8 hg 8 i) he8 (by rw [nI_clamp (by omega), h9 i hi])
          · exact nm_r (nI_1 i) (hw _ (by rw [h, ad_ptf (fun t => ad_nt q3 t.2.2)]))
          · exact nm_r (e' := nI (ad_pt A g e (i + 1))) (by rw [h, ad_1s i hi, ad_or, ad_ptt ⟨q, q2, q3⟩]) (nm_r (nI_1 i) (hw _ rfl))
  · intro n i _ hi _ hw
    exact ad_inb (u := (f0, f1, f2, a1, a2, a3, a4, a5, a6, a7, a8, a9)) l i (fun q => nm_r (nI_1 i) (hw () trivial)) (fun q => absurd q (hlow i hi)) hl (by omega)
theorem ad_naive {post : Int32 → Prop} (ok : ad_OK P A) (h1 : ∀ i, i < 8 → a1 i = nI (A i)) {h g : Nat} (hh : h < 256) (hg : g < 256) (H0 : ¬ ad_nv A h g → post 0) (H1 : post 1) {x y : Int32} (hx : x = nI h := by rfl) (hy : y = nI g := by rfl) : wpX_isNaive post (f0, f1, f2, a1, a2, a3, a4, a5, a6, a7, a8, a9) x y := by
  subst hx hy
  refine ad_from h1 hh ?_
  have ha := ad_and8 h (ad_AF8 ok h)
  refine pk_eq (ad_AF A h &&& h) 0 (fun e => ?_) (fun e => H0 (fun z => e z.1)) (ad_and _ _)
  refine pk_loop (σ := Unit) (fun n i _ => wX_isNaive_14 post (nI h) (nI g) f0 f1 f2 a1 a2 a3 a4 a5 a6 a7 a8 a9 n (nI i)) (fun _ _ => True) 8 0 () (by omega) trivial ?_ ?_
  · intro n _ _
    exact pk_le 8 8 (fun _ => H1) (fun z => absurd z (by omega))
  · intro n i _ hi _ hw
    refine pk_le 8 i (fun z => absurd z (by omega)) (fun _ => ad_inb (ad_sd g h) i (fun q => nm_r (nI_1 i) (hw () trivial)) (fun q => ?_) (ad_sd8 hg) hi (ad_nand g h))
    have hm : h ||| 2 ^ i < 256 := ad_or8 hh (ad_p8 hi)
    refine nm_r (e' := nI (h ||| 2 ^ i)) (by rw [ad_1s i hi, ad_or]) (ad_from h1 hm ?_)
    have hb := ad_and8 (h ||| 2 ^ i) (ad_AF8 ok (h ||| 2 ^ i))
    exact pk_eq (ad_AF A (h ||| 2 ^ i) &&& (h ||| 2 ^ i)) 0 (fun t => H0 (fun z => z.2 i (ad_db.mp q).1 (ad_db.mp q).2 t)) (fun _ => nm_r (nI_1 i) (hw () trivial)) (ad_and _ _)
end
end
section
/-! ===== the walk: fitsParts, findParts ===== -/
/-- a group's weight -/
def ad_wgt (g : Nat) : Nat := if ad_pc g 8 = 0 then 1 else 2 * ad_pc g 8 - 1
theorem ad_wgt1 (g : Nat) : 1 ≤ ad_wgt g := by unfold ad_wgt; split <;> omega
theorem ad_wgtl {g p : Nat} (h : ad_pc g 8 ≤ p) (hp : 0 < p) : ad_wgt g ≤ 2 * p - 1 := by unfold ad_wgt; split <;> omega
theorem ad_wgte {g : Nat} (h : 0 < ad_pc g 8) : ad_wgt g = 2 * ad_pc g 8 - 1 := by unfold ad_wgt; rw [if_neg (by omega)]
def ad_ws (G : Nat → Nat) : Nat → Nat
  | 0 => 0
  | n + 1 => ad_ws G n + ad_wgt (G n)
theorem ad_wsn (G : Nat → Nat) : ∀ n, n ≤ ad_ws G n
  | 0 => Nat.le_refl 0
  | n + 1 => by
    have := ad_wsn G n
    have := ad_wgt1 (G n)
    show n + 1 ≤ ad_ws G n + ad_wgt (G n)
    omega
theorem ad_wsc {G G' : Nat → Nat} : ∀ n, (∀ i, i < n → G' i = G i) → ad_ws G' n = ad_ws G n
  | 0, _ => rfl
  | n + 1, h => by
    show ad_ws G' n + ad_wgt (G' n) = ad_ws G n + ad_wgt (G n)
    rw [ad_wsc n (fun i hi => h i (by omega)), h n (by omega)]
def ad_gs (A : Nat → Nat) (S : Nat) (hf : Prop) (c : Nat) (G : Nat → Nat) (b : Nat → Int32) : Prop := ∀ i, i < c → b i = nI (G i) ∧ G i < 256 ∧ (hf → ∃ n, ad_fit A S n (G i))
section
variable {P : Nat} {A B : Nat → Nat} {f0 f1 f2 : Int32} {a1 a2 : Nat → Int32} {a3 a4 a5 a6 a7 : Nat → Int64} {a8 a9 : Nat → Int32}
/-- a group falls apart -/
theorem ad_fp76 {post : Int32 → St1 → Prop} {J : Int32 → Int32 → Int32 → (Nat → Int32) → (Nat → Int32) → (Nat → Int64) → (Nat → Int64) → (Nat → Int64) → (Nat → Int64) → (Nat → Int64) → (Nat → Int32) → (Nat → Int32) → Prop} (h1 : ∀ i, i < 8 → a1 i = nI (A i)) {S g c : Nat} (hS : S < 256) (hg : g < 256) (h9 : ∀ i, i < 8 → a9 i = nI (ad_w A g 8 i)) {hf : Prop} (hfg : hf → ∃ n, ∀ a, g.testBit a = true → ad_fit A S n (ad_ps A S g a)) (hone : ¬ ad_one A g) {G : Nat → Nat} (hG : ad_gs A S hf c G a8) (hw : ad_ws G c + 2 * ad_pc g 8 ≤ 16)
    (H : ∀ k G' b, ad_gs A S hf k G' b → ad_ws G' k + 2 ≤ ad_ws G c + 2 * ad_pc g 8 → J f0 f1 (nI k) a1 a2 a3 a4 a5 a6 a7 b a9) : ∃ n, wX_fitsParts_76 post J (nI S) (nI g) f0 f1 n (nI g) (nI c) a1 a2 a3 a4 a5 a6 a7 a8 a9 := by
  have hg0 : g ≠ 0 := by
    intro e
    apply hone
    intro a b ha
    rw [e] at ha
    exact absurd ha (ad_b0 a)
  refine loop_m (σ := Nat × Nat × (Nat → Nat) × (Nat → Int32)) (fun n s => wX_fitsParts_76 post J (nI S) (nI g) f0 f1 n (nI s.1) (nI s.2.1) a1 a2 a3 a4 a5 a6 a7 s.2.2.2 a9)
    (fun s => ad_sub s.1 g ∧ (∀ a b, s.1.testBit a = true → (ad_PT A g a).testBit b = true → s.1.testBit b = true) ∧ c ≤ s.2.1 ∧ ad_gs A S hf s.2.1 s.2.2.1 s.2.2.2 ∧ ad_ws s.2.2.1 s.2.1 + 2 * ad_pc s.1 8 + (s.2.1 - c) ≤ ad_ws G c + 2 * ad_pc g 8 ∧ ((s.2.1 = c ∧ s.1 = g) ∨ (c + 1 ≤ s.2.1 ∧ (s.1 ≠ 0 ∨ c + 2 ≤ s.2.1))))
    (fun s => ad_pc s.1 8) ?_ (g, c, G, a8) ⟨fun _ z => z, fun a b _ hb => ad_PTg hg b hb, Nat.le_refl c, hG, by show ad_ws G c + 2 * ad_pc g 8 + (c - c) ≤ _; omega, Or.inl ⟨rfl, rfl⟩⟩
  rintro n ⟨l, k, G', b⟩ ⟨i1, i2, i3, i4, i5, i6⟩ hm
  dsimp only at i1 i2 i3 i4 i5 i6 ⊢
  have hl : l < 256 := ad_s8 hg i1
  refine pk_eq l 0 (fun e => H k G' b i4 ?_) (fun e => ?_)
  · have hk : c + 2 ≤ k := by
      rcases i6 with ⟨_, z⟩ | ⟨_, z⟩
      · exact absurd (z.symm.trans e) hg0
      · rcases z with z | z
        · exact absurd e z
        · exact z
    omega
  · refine ad_part hl hg h9 (fun z => absurd z e) (fun i hi => ?_)
    have hig := i1 i hi
    have hp8 : ad_PT A g i < 256 := ad_PT8 hg
    have hpl : ad_sub (ad_PT A g i) l := fun x hx => i2 i x hi hx
    have hpi := ad_PTs (A := A) hig hg
    have hpp : 0 < ad_pc (ad_PT A g i) 8 := ad_pc0 hp8 (fun z => by rw [z] at hpi; exact ad_b0 i hpi)
    have hpc := ad_pcs hpl 8
    have hsd8 : ad_sd (S &&& g) (ad_PT A g i) < 256 := ad_sd8 (ad_and8 g hS)
    have hps8 : ad_ps A S g i < 256 := ad_sd8 hp8
    have hwn := ad_wsn G' k
    refine nm_r (e' := nI (ad_sd l (ad_PT A g i))) (ad_nand _ _) (ad_from h1 hsd8 ?_ (by rw [ad_and, ad_nand]))
    refine ⟨pk_in k 64 (by omega), nm_r (e' := upd b k (nI (ad_ps A S g i))) ?_ (nm_r (nI_1 k) (hm (ad_sd l (ad_PT A g i), k + 1, fun j => if j = k then ad_ps A S g i else G' j, upd b k (nI (ad_ps A S g i))) ⟨?_, ?_, ?_, ?_, ?_, ?_⟩ ?_))⟩
    · rw [nI_clamp (by omega), ad_nand]
      have e2 : ad_sd (ad_PT A g i) (ad_AF A (ad_sd (S &&& g) (ad_PT A g i))) = ad_ps A S g i := rfl
      rw [e2, ad_sh _ hps8]
    · exact fun x hx => i1 x (ad_db.mp hx).1
    · intro x y hx hy
      obtain ⟨hx1, hx2⟩ := ad_db.mp hx
      refine ad_db.mpr ⟨i2 x y hx1 hy, fun q => hx2 ?_⟩
      rw [← ad_PTe hg q, ad_PTe hg hy]
      exact ad_PTs (i1 x hx1) hg
    · show c ≤ k + 1
      omega
    · intro j hj
      have hj' : j < k + 1 := hj
      show upd b k (nI (ad_ps A S g i)) j = nI (if j = k then ad_ps A S g i else G' j) ∧ (if j = k then ad_ps A S g i else G' j) < 256 ∧ (hf → ∃ n, ad_fit A S n (if j = k then ad_ps A S g i else G' j))
      by_cases q : j = k
      · rw [if_pos q, q, pk_us]
        refine ⟨rfl, hps8, fun hh => ?_⟩
        obtain ⟨n, hn⟩ := hfg hh
        exact ⟨n, hn i hig⟩
      · rw [if_neg q, pk_un q]
        exact i4 j (by omega)
    · show ad_ws (fun j => if j = k then ad_ps A S g i else G' j) k + ad_wgt (if k = k then ad_ps A S g i else G' k) + 2 * ad_pc (ad_sd l (ad_PT A g i)) 8 + (k + 1 - c) ≤ ad_ws G c + 2 * ad_pc g 8
      rw [if_pos rfl, ad_wsc (G := G') k (fun j hj => if_neg (by omega))]
      have hsub : ad_pc (ad_ps A S g i) 8 ≤ ad_pc (ad_PT A g i) 8 := ad_pcm (fun x hx => (ad_db.mp hx).1) 8
      have := ad_wgtl hsub hpp
      omega
    · refine Or.inr ?_
      show c + 1 ≤ k + 1 ∧ (ad_sd l (ad_PT A g i) ≠ 0 ∨ c + 2 ≤ k + 1)
      rcases i6 with ⟨z1, z2⟩ | ⟨z1, _⟩
      · refine ⟨by omega, Or.inl (fun q => ?_)⟩
        rw [z2, ad_sd0] at q
        exact hone ((ad_one1 hg hig).mp (ad_seq (ad_PTg hg) q))
      · exact ⟨by omega, Or.inr (by omega)⟩
    · show ad_pc (ad_sd l (ad_PT A g i)) 8 < ad_pc l 8
      omega
theorem ad_fits {post : Int32 → St1 → Prop} (ok : ad_OK P A) (h0 : f0 = nI P) (h1 : ∀ i, i < 8 → a1 i = nI (A i)) {S : Nat} (hS : S < 256) (H0 : ¬ (∃ n, ad_fit A S n P) → ∀ c b d, post 0 (f0, f1, c, a1, a2, a3, a4, a5, a6, a7, b, d)) (H1 : ∀ c b d, post 1 (f0, f1, c, a1, a2, a3, a4, a5, a6, a7, b, d)) {x : Int32} (hx : x = nI S := by rfl) : wpX_fitsParts post (f0, f1, f2, a1, a2, a3, a4, a5, a6, a7, a8, a9) x := by
  subst hx
  have hp := ad_pcn P 8
  refine nm_r (e' := upd a8 0 (nI P)) (by rw [h0, ad_sh P ok.1]) ?_
  refine loop_m (σ := Nat × (Nat → Nat) × (Nat → Int32) × (Nat → Int32)) (fun n s => wX_fitsParts_16 post (nI S) n f0 f1 (nI s.1) a1 a2 a3 a4 a5 a6 a7 s.2.2.1 s.2.2.2)
    (fun s => ad_gs A S (∃ n, ad_fit A S n P) s.1 s.2.1 s.2.2.1 ∧ ad_ws s.2.1 s.1 ≤ 15) (fun s => ad_ws s.2.1 s.1) ?_ (1, fun _ => P, upd a8 0 (nI P), a9) ⟨fun i hi => ?_, ?_⟩
  · rintro n ⟨c, G, b, d⟩ ⟨i1, i2⟩ hm
    dsimp only at i1 i2 hm ⊢
    refine pk_le c 0 (fun _ => H1 _ b d) (fun hc => ?_) rfl rfl (by have := ad_wsn G c; omega)
    obtain ⟨k, rfl⟩ : ∃ k, c = k + 1 := ⟨c - 1, by omega⟩
    have hwn := ad_wsn G (k + 1)
    have hws : ad_ws G (k + 1) = ad_ws G k + ad_wgt (G k) := rfl
    have hw1 := ad_wgt1 (G k)
    obtain ⟨g1, g2, g3⟩ := i1 k (by omega)
    have hgk : ad_gs A S (∃ n, ad_fit A S n P) k G b := fun i hi => i1 i (by omega)
    refine nm_r (nI_pred k) ⟨pk_in k 64 (by omega), nm_r (e' := nI (G k)) (by rw [nI_clamp (by omega), g1]) ?_⟩
    refine ad_ways h1 g2 (fun d' hd => ?_)
    -- the two roads
    have yes : ad_one A (G k) → wpX_isNaive (fun r_47 => (r_47 = 0 → post 0 (f0, f1, nI k, a1, a2, a3, a4, a5, a6, a7, b, d')) ∧ (¬ r_47 = 0 → wX_fitsParts_16 post (nI S) n f0 f1 (nI k) a1 a2 a3 a4 a5 a6 a7 b d')) (f0, f1, nI k, a1, a2, a3, a4, a5, a6, a7, b, d') (nI S &&& nI (G k)) (nI (G k)) := by
      intro h
      refine ad_naive ok h1 (ad_and8 (G k) hS) g2 (fun z => br_t rfl (H0 (fun q => ?_) _ _ _)) (br_f (by decide) (hm (k, G, b, d') ⟨hgk, ?_⟩ ?_)) (ad_and _ _)
      · obtain ⟨m, hm'⟩ := g3 q
        cases m with
        | zero => exact hm'
        | succ m => exact z (hm'.1 h)
      · show ad_ws G k ≤ 15
        omega
      · show ad_ws G k < ad_ws G (k + 1)
        omega
    refine ad_part g2 g2 hd (fun z => ?_) (fun i hi => ?_)
    · have h : ad_one A (G k) := fun a b ha => by
        rw [z] at ha
        exact absurd ha (ad_b0 a)
      exact br_t (by rw [z, nI_0]) (yes h)
    · have h8 : ad_PT A (G k) i < 256 := ad_PT8 g2
      refine pk_eq (ad_PT A (G k) i) (G k) (fun e => yes ((ad_one1 g2 hi).mp e)) (fun e => ?_)
      have hn : ¬ ad_one A (G k) := fun q => e ((ad_one1 g2 hi).mpr q)
      have hpos : 0 < ad_pc (G k) 8 := ad_pc0 g2 (fun z => by rw [z] at hi; exact ad_b0 i hi)
      have hwe := ad_wgte hpos
      refine ad_fp76 h1 hS g2 hd (fun q => ?_) hn hgk (by omega) (fun k' G' b' hg' hw' => hm (k', G', b', d') ⟨hg', ?_⟩ ?_)
      · obtain ⟨m, hm'⟩ := g3 q
        cases m with
        | zero => exact hm'.elim
        | succ m => exact ⟨m, hm'.2 hn⟩
      · show ad_ws G' k' ≤ 15
        omega
      · show ad_ws G' k' < ad_ws G (k + 1)
        omega
  · have e : i = 0 := by
      have : i < 1 := hi
      omega
    show upd a8 0 (nI P) i = nI P ∧ P < 256 ∧ _
    rw [e, pk_us]
    exact ⟨rfl, ok.1, id⟩
  · show 0 + ad_wgt P ≤ 15
    have := ad_wgtl (g := P) hp (by omega)
    omega
theorem ad_fparts {post : St1 → Prop} (ok : ad_OK P A) (h0 : f0 = nI P) (h1 : ∀ i, i < 8 → a1 i = nI (A i)) (hF : ad_F a4 0 (ad_Cf P A)) (H : ∀ g b c d, (∃ s, s < 256 ∧ ad_mm b 11 s) → ad_kp 44 a4 b → post (f0, f1, g, a1, a2, a3, b, a5, a6, a7, c, d)) : wpX_findParts post (f0, f1, f2, a1, a2, a3, a4, a5, a6, a7, a8, a9) := by
  obtain ⟨E, e1, e2, e3⟩ := ad_cf2 ok
  refine pk_loop (fun n i b => wX_findParts_2 post f0 f1 f2 n (nI i) a1 a2 a3 b a5 a6 a7 a8 a9) (ad_Iw 44 (fun _ => False) a4) 4 0 a4 (by omega) ad_Iw0 ?_ ?_
  · intro n b hb
    refine pk_le 4 4 (fun _ => ?_) (fun z => absurd z (by omega))
    refine pk_loop (σ := Int32 × (Nat → Int64) × (Nat → Int32) × (Nat → Int32)) (fun n i s => wX_findParts_25 post n (nI i) f0 f1 s.1 a1 a2 a3 s.2.1 a5 a6 a7 s.2.2.1 s.2.2.2) (fun i s => ad_kp 44 a4 s.2.1 ∧ (E < i → ad_mm s.2.1 11 E)) 256 0 (f2, b, a8, a9) (by omega) ⟨ad_IwK hb, fun z => absurd z (by omega)⟩ ?_ ?_
    · rintro n ⟨g, b, c, d⟩ ⟨s1, s2⟩
      exact pk_le 256 256 (fun _ => H g b c d ⟨E, e1, s2 e1⟩ s1) (fun z => absurd z (by omega))
    · rintro n i ⟨g, b, c, d⟩ hi ⟨s1, s2⟩ hw
      dsimp only at s1 s2 hw ⊢
      have hFb : ad_F b (4 * 0) (ad_Cf P A) := ad_Fk hF s1 (by omega)
      refine pk_le 256 i (fun z => absurd z (by omega)) (fun _ => ad_memb (k := 0) (by omega) hi (fun e => ?_) (fun e => ?_))
      · rw [ad_mmF hFb hi] at e
        exact nm_r (nI_1 i) (hw (g, b, c, d) ⟨s1, fun z => s2 (by
          have : E ≠ i := fun q => e (q ▸ e2)
          omega)⟩)
      · refine ad_fits ok h0 h1 hi (fun hn g' c' d' => ?_) (fun g' c' d' => ?_)
        · exact br_t rfl (nm_r (nI_1 i) (hw (g', b, c', d') ⟨s1, fun z => s2 (by
            have : E ≠ i := fun q => hn (q ▸ e3)
            omega)⟩))
        · have hi6 : 44 + nI i >>> ((6 : Int32) &&& 31) = nI (44 + i / 64) := by rw [ad_s6 (by omega)]; exact ad_i4 44 (i / 64)
          refine br_f (by decide) ⟨pk_in (44 + i / 64) 48 (by omega) hi6, pk_in (44 + i / 64) 48 (by omega) hi6, nm_r (e' := vp_updL b (44 + i / 64) (b (44 + i / 64) ||| ((1 : Int64) <<< ((nI i &&& 63).toInt64 &&& 63)))) (by rw [hi6, nI_clamp (by omega)]) (nm_r (nI_1 i) (hw (g', _, c', d') ⟨fun v hv => ?_, fun z => ?_⟩))⟩
          · show vp_updL b (44 + i / 64) _ v = a4 v
            rw [pk_uLn (by omega)]; exact s1 v hv
          · refine (ad_mmF (k := 11) (ad_Fset (o := 44) (ad_Fmm b 11) hi) e1).mpr ?_
            by_cases q : E = i
            · exact Or.inr q
            · exact Or.inl (s2 (by omega))
  · intro n w b hw h hn
    refine pk_le 4 w (fun z => absurd z (by omega)) (fun _ => ⟨pk_in (44 + w) 48 (by omega) (ad_i4 44 w), nm_r (e' := vp_updL b (44 + w) 0) (by rw [show (44 : Int32) = nI 44 from rfl, nI_add, nI_clamp (by omega)]) (nm_r (nI_1 w) (hn _ (ad_IwS h (fun j hj => ?_))))⟩)
    rw [ad_l0]
    exact ⟨fun z => absurd z (by decide), fun z => z.elim⟩
end
end
section
/-! ===== the walk: findAll and the answers ===== -/
/-- the state holds the arguments P, the attacks A, and B the other way about -/
def ad_K (P : Nat) (A B : Nat → Nat) (f0 : Int32) (a1 a2 : Nat → Int32) (a3 : Nat → Int64) : Prop := ad_OK P A ∧ ad_BA A B ∧ f0 = nI P ∧ (∀ i, i < 8 → a1 i = nI (A i)) ∧ (∀ i, i < 8 → a2 i = nI (B i)) ∧ ad_H a3
/-- what the law asks of the families -/
def ad_good (P : Nat) (A B : Nat → Nat) (a4 : Nat → Int64) : Prop :=
  (∀ k, k < 12 → k ≠ 5 → k ≠ 6 → k ≠ 7 → ∃ s, s < 256 ∧ ad_mm a4 k s) ∧
  (∀ s, s < 256 → (ad_mm a4 3 s ↔ s = ad_it P A B 8)) ∧
  (∀ s, s < 256 → ad_mm a4 5 s → ad_sub s P ∧ ad_mm a4 4 s ∧ ad_mm a4 6 s ∧ ad_mm a4 7 s ∧ ad_mm a4 8 s) ∧
  (∀ s, s < 256 → ad_mm a4 4 s → ad_sub s P ∧ ad_mm a4 2 s) ∧
  ((∃ s, s < 256 ∧ ad_mm a4 5 s) → ∀ w, w < 4 → a4 (20 + w) = a4 (24 + w) ∧ a4 (24 + w) = a4 (28 + w))
theorem ad_B8 {P : Nat} {A B : Nat → Nat} (ok : ad_OK P A) (ba : ad_BA A B) (i : Nat) : B i < 256 := ad_lt8 (fun b hb => by
  rw [ba] at hb
  exact ad_b8 ok.1 (ok.2 b i hb).1)
theorem ad_mk {P : Nat} {A B : Nat → Nat} {a : Nat → Int64} (ok : ad_OK P A) (ba : ad_BA A B) (F0 : ad_F a 0 (ad_Cf P A)) (F1 : ad_F a 4 (ad_Ad P A)) (F2 : ad_F a 8 (ad_Co P A)) (F3 : ad_F a 12 (fun s => s = ad_it P A B 8)) (F4 : ad_F a 16 (ad_Mx (ad_Ad P A))) (F5 : ad_F a 20 (ad_St P A)) (F6 : ad_F a 24 (ad_Wd A (ad_Co P A))) (F7 : ad_F a 28 (ad_Wd A (ad_Cf P A))) (F8 : ad_F a 32 (ad_Mx (ad_Cf P A))) (F9 : ∃ s, s < 256 ∧ ad_mm a 9 s) (F10 : ∃ s, s < 256 ∧ ad_mm a 10 s) (F11 : ∃ s, s < 256 ∧ ad_mm a 11 s) : ad_good P A B a := by
  have m0 : ∀ s, s < 256 → (ad_mm a 0 s ↔ ad_Cf P A s) := fun s hs => ad_mmF (k := 0) F0 hs
  have m1 : ∀ s, s < 256 → (ad_mm a 1 s ↔ ad_Ad P A s) := fun s hs => ad_mmF (k := 1) F1 hs
  have m2 : ∀ s, s < 256 → (ad_mm a 2 s ↔ ad_Co P A s) := fun s hs => ad_mmF (k := 2) F2 hs
  have m3 : ∀ s, s < 256 → (ad_mm a 3 s ↔ s = ad_it P A B 8) := fun s hs => ad_mmF (k := 3) F3 hs
  have m4 : ∀ s, s < 256 → (ad_mm a 4 s ↔ ad_Mx (ad_Ad P A) s) := fun s hs => ad_mmF (k := 4) F4 hs
  have m5 : ∀ s, s < 256 → (ad_mm a 5 s ↔ ad_St P A s) := fun s hs => ad_mmF (k := 5) F5 hs
  have m6 : ∀ s, s < 256 → (ad_mm a 6 s ↔ ad_Wd A (ad_Co P A) s) := fun s hs => ad_mmF (k := 6) F6 hs
  have m7 : ∀ s, s < 256 → (ad_mm a 7 s ↔ ad_Wd A (ad_Cf P A) s) := fun s hs => ad_mmF (k := 7) F7 hs
  have m8 : ∀ s, s < 256 → (ad_mm a 8 s ↔ ad_Mx (ad_Cf P A) s) := fun s hs => ad_mmF (k := 8) F8 hs
  have cc : ∀ t, ad_Co P A t → ad_Cf P A t := fun t h => h.1.1
  refine ⟨fun k hk h5 h6 h7 => ?_, m3, fun s hs h => ?_, fun s hs h => ?_, ?_⟩
  · have : k = 0 ∨ k = 1 ∨ k = 2 ∨ k = 3 ∨ k = 4 ∨ k = 8 ∨ k = 9 ∨ k = 10 ∨ k = 11 := by omega
    rcases this with e | e | e | e | e | e | e | e | e <;> subst e
    · exact ⟨0, by decide, (m0 0 (by decide)).mpr (ad_cf0 P A)⟩
    · exact ⟨0, by decide, (m1 0 (by decide)).mpr (ad_ad0 P A)⟩
    · exact ⟨_, ad_it8 ok 8, (m2 _ (ad_it8 ok 8)).mpr (ad_gco ok ba)⟩
    · exact ⟨_, ad_it8 ok 8, (m3 _ (ad_it8 ok 8)).mpr rfl⟩
    · obtain ⟨s, s1, s2⟩ := ad_mx (Q := ad_Ad P A) ⟨0, by decide, ad_ad0 P A⟩
      exact ⟨s, s1, (m4 s s1).mpr s2⟩
    · obtain ⟨s, s1, s2⟩ := ad_mx (Q := ad_Cf P A) ⟨0, by decide, ad_cf0 P A⟩
      exact ⟨s, s1, (m8 s s1).mpr s2⟩
    · exact F9
    · exact F10
    · exact F11
  · rw [m5 s hs] at h
    refine ⟨h.1.1, (m4 s hs).mpr ⟨ad_sta ok h, fun t _ ht hst => ad_stm h ht.1 hst⟩, (m6 s hs).mpr (ad_wst ok cc h (ad_sto ok h)), (m7 s hs).mpr (ad_wst ok (fun _ z => z) h h.1), (m8 s hs).mpr ⟨h.1, fun t _ ht hst => ad_stm h ht hst⟩⟩
  · rw [m4 s hs] at h
    exact ⟨h.1.1.1, (m2 s hs).mpr (ad_pco ok h)⟩
  · rintro ⟨s, hs, h⟩ w hw
    rw [m5 s hs] at h
    constructor
    · refine ad_lx (fun j hj => ?_)
      have e5 := F5 w j hw hj
      have e6 := F6 w j hw hj
      rw [ad_wiff ok cc (fun t ht => ad_sto ok ht) hs h] at e6
      rw [Bool.eq_iff_iff, e5, e6]
    · refine ad_lx (fun j hj => ?_)
      have e7 := F7 w j hw hj
      have e6 := F6 w j hw hj
      rw [ad_wiff ok cc (fun t ht => ad_sto ok ht) hs h] at e6
      rw [ad_wiff ok (fun _ z => z) (fun t ht => ht.1) hs h] at e7
      rw [Bool.eq_iff_iff, e6, e7]
/-- how many sets below n a family has -/
def ad_cnt (a : Nat → Int64) (k : Nat) : Nat → Nat
  | 0 => 0
  | n + 1 => ad_cnt a k n + (if ad_lb (a (4 * k + n / 64)) (n % 64) = true then 1 else 0)
theorem ad_cn {a : Nat → Int64} {k : Nat} : ∀ n, ad_cnt a k n ≤ n
  | 0 => Nat.le_refl 0
  | n + 1 => by
    have := ad_cn (a := a) (k := k) n
    unfold ad_cnt
    split <;> omega
theorem ad_ct {a : Nat → Int64} {k n : Nat} (h : ad_mm a k n) : ad_cnt a k (n + 1) = ad_cnt a k n + 1 := by
  show ad_cnt a k n + (if ad_lb (a (4 * k + n / 64)) (n % 64) = true then 1 else 0) = _
  unfold ad_mm at h
  rw [if_pos h]
theorem ad_cf {a : Nat → Int64} {k n : Nat} (h : ¬ ad_mm a k n) : ad_cnt a k (n + 1) = ad_cnt a k n := by
  show ad_cnt a k n + (if ad_lb (a (4 * k + n / 64)) (n % 64) = true then 1 else 0) = _
  unfold ad_mm at h
  rw [if_neg h]
  rfl
theorem ad_cpos {a : Nat → Int64} {k s : Nat} (h : ad_mm a k s) : ∀ n, s < n → 0 < ad_cnt a k n
  | 0, z => absurd z (by omega)
  | n + 1, z => by
    by_cases e : s = n
    · subst e; rw [ad_ct h]; omega
    · have := ad_cpos h n (by omega)
      by_cases q : ad_mm a k n
      · rw [ad_ct q]; omega
      · rw [ad_cf q]; exact this
theorem ad_c1 {a : Nat → Int64} {k g : Nat} : ∀ n, n ≤ 256 → (∀ s, s < 256 → (ad_mm a k s ↔ s = g)) → ad_cnt a k n = if g < n then 1 else 0
  | 0, _, _ => by rw [if_neg (by omega)]; rfl
  | n + 1, hn, h => by
    have ih := ad_c1 n (by omega) h
    by_cases q : ad_mm a k n
    · have e := (h n (by omega)).mp q
      rw [ad_ct q, ih, if_neg (by omega), if_pos (by omega)]
    · have e : n ≠ g := fun z => q ((h n (by omega)).mpr z)
      rw [ad_cf q, ih]
      by_cases z : g < n
      · rw [if_pos z, if_pos (by omega)]
      · rw [if_neg z, if_neg (by omega)]
section
variable {P : Nat} {A B : Nat → Nat} {f0 f1 f2 : Int32} {a1 a2 : Nat → Int32} {a3 a4 a5 a6 a7 : Nat → Int64} {a8 a9 : Nat → Int32}
theorem ad_all {post : St1 → Prop} (hK : ad_K P A B f0 a1 a2 a3) (hg : f1 = 0 ∨ ad_good P A B a4) (H : ∀ (e1 e2 : Int32) (b4 b5 b6 b7 : Nat → Int64) (b8 b9 : Nat → Int32), ¬ e1 = 0 → ad_good P A B b4 → post (f0, e1, e2, a1, a2, a3, b4, b5, b6, b7, b8, b9)) : wpX_findAll post (f0, f1, f2, a1, a2, a3, a4, a5, a6, a7, a8, a9) := by
  obtain ⟨ok, ba, h0, h1, h2, hH⟩ := hK
  have hB := ad_B8 ok ba
  by_cases hf : f1 = 0
  · refine br_t hf ?_
    refine ad_sFree ok h0 h1 hH (fun b0 F0 k0 => ?_)
    refine ad_sAdm ba h2 hB hH F0 (fun b1 F1 k1 => ?_)
    refine ad_sCom ok ba h0 h2 hB hH F1 (fun b2 F2 k2 => ?_)
    have F0 := ad_Fk (ad_Fk F0 k1 (by omega)) k2 (by omega)
    have F1 := ad_Fk F1 k2 (by omega)
    refine ad_sSta ok ba h0 h2 hB hH F0 (fun b3 F5 k5 => ?_)
    have F0 := ad_Fk F0 k5 (by omega)
    have F1 := ad_Fk F1 k5 (by omega)
    have F2 := ad_Fk F2 k5 (by omega)
    refine ad_least ok h0 h1 h2 hB (fun b4 F3 k3 => ?_)
    have F0 := ad_Fk F0 k3 (by omega)
    have F1 := ad_Fk F1 k3 (by omega)
    have F2 := ad_Fk F2 k3 (by omega)
    have F5 := ad_Fk F5 k3 (by omega)
    refine ad_takeG (k := 4) (m := 1) hH (by omega) (by omega) F1 (fun b5 c5 d5 F4 k4 => ?_)
    have F0 := ad_Fk F0 k4 (by omega)
    have F1 := ad_Fk F1 k4 (by omega)
    have F2 := ad_Fk F2 k4 (by omega)
    have F3 := ad_Fk F3 k4 (by omega)
    have F5 := ad_Fk F5 k4 (by omega)
    refine ad_takeG (k := 8) (m := 0) hH (by omega) (by omega) F0 (fun b6 c6 d6 F8 k8 => ?_)
    have F0 := ad_Fk F0 k8 (by omega)
    have F1 := ad_Fk F1 k8 (by omega)
    have F2 := ad_Fk F2 k8 (by omega)
    have F3 := ad_Fk F3 k8 (by omega)
    have F4 := ad_Fk F4 k8 (by omega)
    have F5 := ad_Fk F5 k8 (by omega)
    refine ad_takeW (k := 6) (m := 2) ok hH h1 (by omega) (by omega) (by omega) F2 (fun b7 c7 d7 e7 F6 k6 => ?_)
    have F0 := ad_Fk F0 k6 (by omega)
    have F1 := ad_Fk F1 k6 (by omega)
    have F2 := ad_Fk F2 k6 (by omega)
    have F3 := ad_Fk F3 k6 (by omega)
    have F4 := ad_Fk F4 k6 (by omega)
    have F5 := ad_Fk F5 k6 (by omega)
    have F8 := ad_Fk F8 k6 (by omega)
    refine ad_takeW (k := 7) (m := 0) ok hH h1 (by omega) (by omega) (by omega) F0 (fun b8 c8 d8 e8 F7 k7 => ?_)
    have F0 := ad_Fk F0 k7 (by omega)
    have F1 := ad_Fk F1 k7 (by omega)
    have F2 := ad_Fk F2 k7 (by omega)
    have F3 := ad_Fk F3 k7 (by omega)
    have F4 := ad_Fk F4 k7 (by omega)
    have F5 := ad_Fk F5 k7 (by omega)
    have F6 := ad_Fk F6 k7 (by omega)
    have F8 := ad_Fk F8 k7 (by omega)
    refine ad_within (k := 9) (m := 4) hH (by omega) (by omega) F1 (fun b9 c9 d9 F9 k9 => ?_)
    have F0 := ad_Fk F0 k9 (by omega)
    have F1 := ad_Fk F1 k9 (by omega)
    have F2 := ad_Fk F2 k9 (by omega)
    have F3 := ad_Fk F3 k9 (by omega)
    have F4 := ad_Fk F4 k9 (by omega)
    have F5 := ad_Fk F5 k9 (by omega)
    have F6 := ad_Fk F6 k9 (by omega)
    have F7 := ad_Fk F7 k9 (by omega)
    have F8 := ad_Fk F8 k9 (by omega)
    refine ad_within (k := 10) (m := 6) hH (by omega) (by omega) F1 (fun b10 c10 d10 F10 k10 => ?_)
    have F0 := ad_Fk F0 k10 (by omega)
    have F1 := ad_Fk F1 k10 (by omega)
    have F2 := ad_Fk F2 k10 (by omega)
    have F3 := ad_Fk F3 k10 (by omega)
    have F4 := ad_Fk F4 k10 (by omega)
    have F5 := ad_Fk F5 k10 (by omega)
    have F6 := ad_Fk F6 k10 (by omega)
    have F7 := ad_Fk F7 k10 (by omega)
    have F8 := ad_Fk F8 k10 (by omega)
    refine ad_fparts ok h0 h1 F0 (fun g b11 c11 d11 F11 k11 => ?_)
    have F0 := ad_Fk F0 k11 (by omega)
    have F1 := ad_Fk F1 k11 (by omega)
    have F2 := ad_Fk F2 k11 (by omega)
    have F3 := ad_Fk F3 k11 (by omega)
    have F4 := ad_Fk F4 k11 (by omega)
    have F5 := ad_Fk F5 k11 (by omega)
    have F6 := ad_Fk F6 k11 (by omega)
    have F7 := ad_Fk F7 k11 (by omega)
    have F8 := ad_Fk F8 k11 (by omega)
    have F9' : ∃ s, s < 256 ∧ ad_mm b11 9 s := by
      obtain ⟨s, s1, s2⟩ := F9
      refine ⟨s, s1, ?_⟩
      unfold ad_mm at s2 ⊢
      rw [k11 _ (by omega), k10 _ (by omega)]
      exact s2
    have F10' : ∃ s, s < 256 ∧ ad_mm b11 10 s := by
      obtain ⟨s, s1, s2⟩ := F10
      refine ⟨s, s1, ?_⟩
      unfold ad_mm at s2 ⊢
      rw [k11 _ (by omega)]
      exact s2
    exact H 1 g b11 _ _ _ _ _ (by decide) (ad_mk ok ba F0 F1 F2 F3 F4 F5 F6 F7 F8 F9' F10' F11)
  · exact br_f hf (H f1 f2 a4 a5 a6 a7 a8 a9 hf (hg.elim (fun z => absurd z hf) id))
theorem ad_sense {X Y : Prop} {k : Nat} (u : St1) (hk : k < 12) (h : Y) {x : Int32} (hx : x = nI k := by rfl) : wpX_isSense (fun r => (r = 0 → X) ∧ (¬ r = 0 → Y)) u x := by
  subst hx
  obtain ⟨f0, f1, f2, a1, a2, a3, a4, a5, a6, a7, a8, a9⟩ := u
  exact br_f (nI_pos (by omega)) (pk_lt 11 k (fun z => absurd z (by omega)) (fun _ => br_f (by decide) h))
theorem ad_count {post : Int32 → St1 → Prop} (hK : ad_K P A B f0 a1 a2 a3) (hg : f1 = 0 ∨ ad_good P A B a4) {k : Nat} (hk : k < 12) (H : ∀ (e1 e2 : Int32) (b4 b5 b6 b7 : Nat → Int64) (b8 b9 : Nat → Int32), ¬ e1 = 0 → ad_good P A B b4 → post (nI (ad_cnt b4 k 256)) (f0, e1, e2, a1, a2, a3, b4, b5, b6, b7, b8, b9)) {x : Int32} (hx : x = nI k := by rfl) : wpX_count post (f0, f1, f2, a1, a2, a3, a4, a5, a6, a7, a8, a9) x := by
  subst hx
  refine ad_sense (f0, f1, f2, a1, a2, a3, a4, a5, a6, a7, a8, a9) hk (ad_all hK hg (fun e1 e2 b4 b5 b6 b7 b8 b9 h1 h2 => ?_))
  refine pk_loop (fun n i x => wX_count_18 post (nI k) f0 e1 e2 a1 a2 a3 b4 b5 b6 b7 b8 b9 n x (nI i)) (fun i x => x = nI (ad_cnt b4 k i)) 256 0 0 (by omega) rfl ?_ ?_
  · intro n x h
    exact pk_le 256 256 (fun _ => by rw [h]; exact H e1 e2 b4 b5 b6 b7 b8 b9 h1 h2) (fun z => absurd z (by omega))
  · intro n i x hi h hw
    refine pk_le 256 i (fun z => absurd z (by omega)) (fun _ => ad_memb hk hi (fun e => ?_) (fun e => ?_))
    · exact nm_r (nI_1 i) (hw _ (by rw [h, ad_cf e]))
    · exact nm_r (e' := nI (ad_cnt b4 k (i + 1))) (by rw [h, nI_1, ad_ct e]) (nm_r (nI_1 i) (hw _ rfl))
theorem ad_set {post : Int32 → St1 → Prop} (hf : ¬ f1 = 0) {k c : Nat} (hk : k < 12) (hc : c < ad_cnt a4 k 256) (H : ∀ s, s < 256 → ad_mm a4 k s → post (nI s) (f0, f1, f2, a1, a2, a3, a4, a5, a6, a7, a8, a9)) {x y : Int32} (hx : x = nI k := by rfl) (hy : y = nI c := by rfl) : wpX_set post (f0, f1, f2, a1, a2, a3, a4, a5, a6, a7, a8, a9) x y := by
  subst hx hy
  have h256 := ad_cn (a := a4) (k := k) 256
  refine ad_sense (f0, f1, f2, a1, a2, a3, a4, a5, a6, a7, a8, a9) hk (br_f hf ?_)
  refine pk_loop (fun n i x => wX_set_19 post (nI k) f0 f1 f2 a1 a2 a3 a4 a5 a6 a7 a8 a9 n x (nI i)) (fun i x => ad_cnt a4 k i ≤ c ∧ x = nI (c - ad_cnt a4 k i)) 256 0 (nI c) (by omega) ⟨Nat.zero_le c, rfl⟩ ?_ ?_
  · intro n x h
    have := h.1
    omega
  · intro n i x hi h hw
    refine pk_le 256 i (fun z => absurd z (by omega)) (fun _ => ad_memb hk hi (fun e => ?_) (fun e => ?_))
    · exact nm_r (nI_1 i) (hw _ (by rw [ad_cf e]; exact h))
    · have h1 := h.1
      refine pk_eq (c - ad_cnt a4 k i) 0 (fun _ => H i hi e) (fun z => ?_) h.2
      refine nm_r (e' := nI (c - ad_cnt a4 k (i + 1))) ?_ (nm_r (nI_1 i) (hw _ ⟨?_, rfl⟩))
      · rw [h.2, ad_ct e, show c - ad_cnt a4 k i = c - (ad_cnt a4 k i + 1) + 1 by omega, pk_m1]
      · rw [ad_ct e]; omega
theorem ad_is {post : Int32 → St1 → Prop} (hf : ¬ f1 = 0) (h0 : f0 = nI P) {k s : Nat} (hk : k < 12) (hs : s < 256) (hsub : ad_sub s P) (hm : ad_mm a4 k s) (H : post 1 (f0, f1, f2, a1, a2, a3, a4, a5, a6, a7, a8, a9)) {x y : Int32} (hx : x = nI k := by rfl) (hy : y = nI s := by rfl) : wpX_is post (f0, f1, f2, a1, a2, a3, a4, a5, a6, a7, a8, a9) x y := by
  subst hx hy
  refine ad_sense (f0, f1, f2, a1, a2, a3, a4, a5, a6, a7, a8, a9) hk (br_f (nI_pos (by omega)) (br_t ?_ (br_f hf ?_)))
  · rw [h0, ad_nand, ad_sd0.mpr hsub, nI_0]
  · exact ad_mem hk hs (fun z => absurd hm z) (fun _ => ⟨rfl, H⟩)
theorem ad_agree {post : Int32 → St1 → Prop} (hf : ¬ f1 = 0) {k m : Nat} (hk : k < 12) (hm : m < 12) (he : ∀ w, w < 4 → a4 (4 * k + w) = a4 (4 * m + w)) (H : post 1 (f0, f1, f2, a1, a2, a3, a4, a5, a6, a7, a8, a9)) {x y : Int32} (hx : x = nI k := by rfl) (hy : y = nI m := by rfl) : wpX_agree post (f0, f1, f2, a1, a2, a3, a4, a5, a6, a7, a8, a9) x y := by
  subst hx hy
  refine ad_sense (f0, f1, f2, a1, a2, a3, a4, a5, a6, a7, a8, a9) hk (ad_sense (f0, f1, f2, a1, a2, a3, a4, a5, a6, a7, a8, a9) hm (br_f hf ?_))
  refine pk_loop (σ := Unit) (fun n i _ => wX_agree_24 post (nI k) (nI m) f0 f1 f2 a1 a2 a3 a4 a5 a6 a7 a8 a9 n (nI i)) (fun _ _ => True) 4 0 () (by omega) trivial ?_ ?_
  · intro n _ _
    exact pk_le 4 4 (fun _ => H) (fun z => absurd z (by omega))
  · intro n w _ hw _ hn
    refine pk_le 4 w (fun z => absurd z (by omega)) (fun _ => ⟨pk_in (4 * k + w) 48 (by omega) (ad_4 k w), pk_in (4 * m + w) 48 (by omega) (ad_4 m w), br_t ?_ (nm_r (nI_1 w) (hn () trivial))⟩)
    rw [ad_4, ad_4, nI_clamp (by omega), nI_clamp (by omega)]
    exact he w hw
theorem ad_there {post : Int32 → Prop} (hP : P < 256) (h0 : f0 = nI P) {a : Nat} (ha : a < 8) (H0 : P.testBit a = false → post 0) (H1 : P.testBit a = true → post 1) {x : Int32} (hx : x = nI a := by rfl) : wpX_isThere post (f0, f1, f2, a1, a2, a3, a4, a5, a6, a7, a8, a9) x := by
  subst hx
  exact br_f (nI_pos (by omega)) (pk_le 8 a (fun z => absurd z (by omega)) (fun _ => ad_inb P a H0 H1 hP ha h0))
theorem ad_round {post : Int32 → Prop} (hK : ad_K P A B f0 a1 a2 a3) {b : Nat} (hb : b < 8) (H : ∀ r : Int32, (¬ r < 1 ↔ (ad_it P A B 8).testBit b = true) → post r) {x : Int32} (hx : x = nI b := by rfl) : wpX_round post (f0, f1, f2, a1, a2, a3, a4, a5, a6, a7, a8, a9) x := by
  subst hx
  obtain ⟨ok, ba, h0, h1, h2, hH⟩ := hK
  unfold wpX_round
  dsimp only
  refine ad_there ok.1 h0 hb (fun e => br_t rfl (H (-1) ⟨fun z => absurd (by decide) z, fun z => ?_⟩)) (fun e => br_f (show ¬ (1 : Int32) = 0 by decide) ?_)
  · exact absurd ((ad_itc ok ba 8).1 b z) (ad_nt e)
  · refine pk_loop (fun n i x => wX_round_14 post (nI b) f0 f1 f2 a1 a2 a3 a4 a5 a6 a7 a8 a9 n x (nI (i + 1))) (fun i x => x = nI (ad_it P A B i) ∧ ¬ (ad_it P A B i).testBit b = true) 8 0 0 (by omega) ⟨rfl, ad_b0 b⟩ ?_ ?_
    · intro n x h
      exact pk_lt 8 9 (fun _ => H (-2) ⟨fun z => absurd (by decide) z, fun z => absurd z h.2⟩) (fun z => absurd z (by omega))
    · intro n i x hi h hw
      refine pk_lt 8 (i + 1) (fun z => absurd z (by omega)) (fun _ => ad_defd ok h0 h1 h2 (ad_B8 ok ba) (ad_it8 ok i) ?_ h.1)
      refine ad_inb (ad_it P A B (i + 1)) b (fun q => ?_) (fun q => ?_) (ad_it8 ok (i + 1)) hb
      · exact nm_r (nI_1 (i + 1)) (hw _ ⟨rfl, ad_nt q⟩)
      · refine H _ ⟨fun _ => ?_, fun _ => ?_⟩
        · have := ad_itk ok ba (i + 1) (8 - (i + 1)) b q
          rw [show i + 1 + (8 - (i + 1)) = 8 by omega] at this
          exact this
        · exact nI_nlt (b := 1) (by omega) (by omega)
end
end
section
/-! ===== the walk: put, attack, the constructor ===== -/
def ad_del (A : Nat → Nat) (a i : Nat) : Nat := if i = a then 0 else ad_sd (A i) (2 ^ a)
theorem ad_delb {A : Nat → Nat} {a x y : Nat} : (ad_del A a x).testBit y = true ↔ x ≠ a ∧ y ≠ a ∧ (A x).testBit y = true := by
  unfold ad_del
  by_cases e : x = a
  · rw [if_pos e]
    exact ⟨fun z => absurd z (ad_b0 y), fun z => absurd e z.1⟩
  · rw [if_neg e, ad_db, ad_2b]
    exact ⟨fun z => ⟨e, fun q => z.2 q.symm, z.1⟩, fun z => ⟨z.2.2, fun q => z.2.1 q.symm⟩⟩
theorem ad_delo {P : Nat} {A : Nat → Nat} (ok : ad_OK P A) {a : Nat} (ha : a < 8) : ad_OK (P ^^^ 2 ^ a) (ad_del A a) := by
  have hx : ∀ x, x ≠ a → P.testBit x = true → (P ^^^ 2 ^ a).testBit x = true := by
    intro x hx h
    rw [Nat.testBit_xor, h, ad_pb, decide_eq_false (fun q => hx q.symm)]
    rfl
  refine ⟨ad_xor8 ok.1 (ad_p8 ha), fun x y h => ?_⟩
  obtain ⟨h1, h2, h3⟩ := ad_delb.mp h
  exact ⟨hx x h1 (ok.2 x y h3).1, hx y h2 (ok.2 x y h3).2⟩
theorem ad_delba {A B : Nat → Nat} (ba : ad_BA A B) (a : Nat) : ad_BA (ad_del A a) (ad_del B a) := by
  intro x y
  rw [Bool.eq_iff_iff, ad_delb, ad_delb, ba]
  exact ⟨fun z => ⟨z.2.1, z.1, z.2.2⟩, fun z => ⟨z.2.1, z.1, z.2.2⟩⟩
def ad_tog (A : Nat → Nat) (a b i : Nat) : Nat := if i = a then A i ^^^ 2 ^ b else A i
theorem ad_togb {A : Nat → Nat} {a b x y : Nat} : (ad_tog A a b x).testBit y = ((A x).testBit y ^^ (decide (x = a) && decide (b = y))) := by
  unfold ad_tog
  by_cases e : x = a
  · rw [if_pos e, Nat.testBit_xor, ad_pb, decide_eq_true e, Bool.true_and]
  · rw [if_neg e, decide_eq_false e, Bool.false_and, Bool.xor_false]
theorem ad_togo {P : Nat} {A : Nat → Nat} (ok : ad_OK P A) {a b : Nat} (ha : P.testBit a = true) (hb : P.testBit b = true) : ad_OK P (ad_tog A a b) := by
  refine ⟨ok.1, fun x y h => ?_⟩
  rw [ad_togb] at h
  by_cases e : x = a ∧ b = y
  · rw [e.1, ← e.2]
    exact ⟨ha, hb⟩
  · have : (decide (x = a) && decide (b = y)) = false := by
      rw [Bool.and_eq_false_iff, decide_eq_false_iff_not, decide_eq_false_iff_not]
      by_cases q : x = a
      · exact Or.inr (fun z => e ⟨q, z⟩)
      · exact Or.inl q
    rw [this, Bool.xor_false] at h
    exact ok.2 x y h
theorem ad_togba {A B : Nat → Nat} (ba : ad_BA A B) (a b : Nat) : ad_BA (ad_tog A a b) (ad_tog B b a) := by
  intro x y
  rw [ad_togb, ad_togb, ba, Bool.and_comm]
  congr 2
  · exact decide_eq_decide.mpr ⟨fun z => z.symm, fun z => z.symm⟩
  · exact decide_eq_decide.mpr ⟨fun z => z.symm, fun z => z.symm⟩
section
variable {P : Nat} {A B : Nat → Nat} {f0 f1 f2 : Int32} {a1 a2 : Nat → Int32} {a3 a4 a5 a6 a7 : Nat → Int64} {a8 a9 : Nat → Int32}
theorem ad_put85 {post : Int32 → St1 → Prop} {a : Nat} (ha : a < 8) (H : post 1 (f0, 0, f2, upd a1 a 0, upd a2 a 0, a3, a4, a5, a6, a7, a8, a9)) : wX_put_85 post (nI a) f0 f1 f2 a1 a2 a3 a4 a5 a6 a7 a8 a9 :=
  ⟨pk_in a 8 ha, nm_r (e' := upd a1 a 0) (by rw [nI_clamp (by omega)]) ⟨pk_in a 8 ha, nm_r (e' := upd a2 a 0) (by rw [nI_clamp (by omega)]) H⟩⟩
theorem ad_put {post : Int32 → St1 → Prop} (hK : ad_K P A B f0 a1 a2 a3) (hg : f1 = 0 ∨ ad_good P A B a4) {a : Nat} (ha : a < 8) {p : Int32} (hp : p = 0 ∨ p = 1) (H : ∀ (r e0 e1 : Int32) (P' : Nat) (A' B' : Nat → Nat) (b1 b2 : Nat → Int32), ad_K P' A' B' e0 b1 b2 a3 → (e1 = 0 ∨ ad_good P' A' B' a4) → post r (e0, e1, f2, b1, b2, a3, a4, a5, a6, a7, a8, a9)) {x : Int32} (hx : x = nI a := by rfl) : wpX_put post (f0, f1, f2, a1, a2, a3, a4, a5, a6, a7, a8, a9) x p := by
  subst hx
  have hK' := hK
  obtain ⟨ok, ba, h0, h1, h2, hH⟩ := hK
  have hf : f0 ^^^ (1 : Int32) <<< (nI a &&& 31) = nI (P ^^^ 2 ^ a) := by rw [h0, ad_1s a ha, ad_xor]
  have fin : ∀ (c1 c2 : Nat → Int32), (∀ i, i < 8 → i ≠ a → c1 i = nI (ad_sd (A i) (2 ^ a))) → (∀ i, i < 8 → i ≠ a → c2 i = nI (ad_sd (B i) (2 ^ a))) → ad_K (P ^^^ 2 ^ a) (ad_del A a) (ad_del B a) (nI (P ^^^ 2 ^ a)) (upd c1 a 0) (upd c2 a 0) a3 := by
    intro c1 c2 hc1 hc2
    refine ⟨ad_delo ok ha, ad_delba ba a, rfl, fun i hi => ?_, fun i hi => ?_, hH⟩
    · unfold ad_del
      by_cases e : i = a
      · rw [if_pos e, e, pk_us]; rfl
      · rw [if_neg e, pk_un e]; exact hc1 i hi e
    · unfold ad_del
      by_cases e : i = a
      · rw [if_pos e, e, pk_us]; rfl
      · rw [if_neg e, pk_un e]; exact hc2 i hi e
  refine br_f (nI_pos (by omega)) (pk_lt 7 a (fun z => absurd z (by omega)) (fun _ => ad_in P a (fun e => ?_) (fun e => ?_) ok.1 ha h0))
  · rcases hp with rfl | rfl
    · exact br_t rfl (H 0 f0 f1 P A B a1 a2 hK' hg)
    · refine br_f (by decide) (nm_r hf ⟨1, br_f (by decide) (br_f (by decide) (ad_put85 ha (H _ _ _ _ _ _ _ _ (fin a1 a2 (fun i hi _ => ?_) (fun i hi _ => ?_)) (Or.inl rfl))))⟩)
      · rw [h1 i hi]
        refine congrArg nI (ad_ext (fun y => ?_))
        rw [ad_db, ad_2b]
        exact ⟨fun z => ⟨z, fun q => ad_nt e (q ▸ (ok.2 i y z).2)⟩, fun z => z.1⟩
      · rw [h2 i hi]
        refine congrArg nI (ad_ext (fun y => ?_))
        rw [ad_db, ad_2b]
        exact ⟨fun z => ⟨z, fun q => ad_nt e (q ▸ (ok.2 y i (by rw [← ba]; exact z)).1)⟩, fun z => z.1⟩
  · rcases hp with rfl | rfl
    · refine br_f (by decide) (nm_r hf ?_)
      refine pk_loop (σ := (Nat → Int32) × (Nat → Int32)) (fun n i s => wX_put_39 post (nI a) 0 (nI (P ^^^ 2 ^ a)) f1 f2 n (nI i) s.1 s.2 a3 a4 a5 a6 a7 a8 a9) (fun k s => (∀ i, i < 8 → s.1 i = nI (if i < k then ad_sd (A i) (2 ^ a) else A i)) ∧ (∀ i, i < 8 → s.2 i = nI (if i < k then ad_sd (B i) (2 ^ a) else B i))) 8 0 (a1, a2) (by omega) ⟨fun i hi => by rw [if_neg (by omega)]; exact h1 i hi, fun i hi => by rw [if_neg (by omega)]; exact h2 i hi⟩ ?_ ?_
      · rintro n ⟨c1, c2⟩ ⟨s1, s2⟩
        exact pk_le 8 8 (fun _ => ad_put85 ha (H _ _ _ _ _ _ _ _ (fin c1 c2 (fun i hi _ => by have := s1 i hi; rw [if_pos hi] at this; exact this) (fun i hi _ => by have := s2 i hi; rw [if_pos hi] at this; exact this)) (Or.inl rfl))) (fun z => absurd z (by omega))
      · rintro n k ⟨c1, c2⟩ hk ⟨s1, s2⟩ hw
        dsimp only at s1 s2 hw ⊢
        have step : ∀ (M : Nat → Nat) (c : Nat → Int32), (∀ i, i < 8 → c i = nI (if i < k then ad_sd (M i) (2 ^ a) else M i)) → ∀ i, i < 8 → upd c k (nI (ad_sd (M k) (2 ^ a))) i = nI (if i < k + 1 then ad_sd (M i) (2 ^ a) else M i) := by
          intro M c hc i hi
          by_cases q : i = k
          · rw [q, pk_us, if_pos (by omega)]
          · rw [pk_un q, hc i hi]
            by_cases q2 : i < k
            · rw [if_pos q2, if_pos (by omega)]
            · rw [if_neg q2, if_neg (by omega)]
        have t1 := s1 k hk
        have t2 := s2 k hk
        rw [if_neg (by omega)] at t1 t2
        refine pk_le 8 k (fun z => absurd z (by omega)) (fun _ => br_t rfl ⟨pk_in k 8 hk, pk_in k 8 hk, nm_r (e' := upd c1 k (nI (ad_sd (A k) (2 ^ a)))) ?_ ⟨pk_in k 8 hk, pk_in k 8 hk, nm_r (e' := upd c2 k (nI (ad_sd (B k) (2 ^ a)))) ?_ (nm_r (nI_1 k) (hw (_, _) ⟨step A c1 s1, step B c2 s2⟩))⟩⟩)
        · rw [nI_clamp (by omega), t1, ad_1s a ha, ad_nand, ad_sh _ (ad_sd8 (ad_A8 ok k))]
        · rw [nI_clamp (by omega), t2, ad_1s a ha, ad_nand, ad_sh _ (ad_sd8 (ad_B8 ok ba k))]
    · exact br_t rfl (H 0 f0 f1 P A B a1 a2 hK' hg)
theorem ad_attack {post : Int32 → St1 → Prop} (hK : ad_K P A B f0 a1 a2 a3) (hg : f1 = 0 ∨ ad_good P A B a4) {a b : Nat} (ha : a < 8) (hb : b < 8) {p : Int32} (H : ∀ (r e0 e1 : Int32) (P' : Nat) (A' B' : Nat → Nat) (b1 b2 : Nat → Int32), ad_K P' A' B' e0 b1 b2 a3 → (e1 = 0 ∨ ad_good P' A' B' a4) → post r (e0, e1, f2, b1, b2, a3, a4, a5, a6, a7, a8, a9)) {x y : Int32} (hx : x = nI a := by rfl) (hy : y = nI b := by rfl) : wpX_attack post (f0, f1, f2, a1, a2, a3, a4, a5, a6, a7, a8, a9) x y p := by
  subst hx hy
  have hK' := hK
  obtain ⟨ok, ba, h0, h1, h2, hH⟩ := hK
  have same : post 0 (f0, f1, f2, a1, a2, a3, a4, a5, a6, a7, a8, a9) := H 0 f0 f1 P A B a1 a2 hK' hg
  unfold wpX_attack
  dsimp only
  refine ad_there ok.1 h0 ha (fun e => br_t rfl same) (fun ea => br_f (by decide) ?_)
  refine ad_there ok.1 h0 hb (fun e => br_t rfl same) (fun eb => br_f (by decide) ⟨pk_in a 8 ha, ?_⟩)
  have go : ∀ r : Int32, (r = p → post 0 (f0, f1, f2, a1, a2, a3, a4, a5, a6, a7, a8, a9)) ∧ (¬ r = p → (vp_in (nI a) 8 ∧ (vp_in (nI a) 8 ∧ ∀ a1_10, a1_10 = upd a1 (nI a).toNatClampNeg (((a1 (nI a).toNatClampNeg) ^^^ ((1 : Int32) <<< (nI b &&& 31))).toInt16.toInt32) → (vp_in (nI b) 8 ∧ (vp_in (nI b) 8 ∧ ∀ a2_13, a2_13 = upd a2 (nI b).toNatClampNeg (((a2 (nI b).toNatClampNeg) ^^^ ((1 : Int32) <<< (nI a &&& 31))).toInt16.toInt32) → (post 1 (f0, 0, f2, a1_10, a2_13, a3, a4, a5, a6, a7, a8, a9))))))) := by
    intro r
    refine br_c (fun _ => same) (fun _ => ⟨pk_in a 8 ha, pk_in a 8 ha, nm_r (e' := upd a1 a (nI (A a ^^^ 2 ^ b))) ?_ ⟨pk_in b 8 hb, pk_in b 8 hb, nm_r (e' := upd a2 b (nI (B b ^^^ 2 ^ a))) ?_ (H 1 f0 0 P (ad_tog A a b) (ad_tog B b a) _ _ ⟨ad_togo ok ea eb, ad_togba ba a b, h0, fun i hi => ?_, fun i hi => ?_, hH⟩ (Or.inl rfl))⟩⟩)
    · rw [nI_clamp (by omega), h1 a ha, ad_1s b hb, ad_xor, ad_sh _ (ad_xor8 (ad_A8 ok a) (ad_p8 hb))]
    · rw [nI_clamp (by omega), h2 b hb, ad_1s a ha, ad_xor, ad_sh _ (ad_xor8 (ad_B8 ok ba b) (ad_p8 ha))]
    · unfold ad_tog
      by_cases e : i = a
      · rw [if_pos e, e, pk_us]
      · rw [if_neg e, pk_un e]; exact h1 i hi
    · unfold ad_tog
      by_cases e : i = b
      · rw [if_pos e, e, pk_us]
      · rw [if_neg e, pk_un e]; exact h2 i hi
  exact ad_in (A a) b (fun _ => go 0) (fun _ => go 1) (ad_A8 ok a) hb (by rw [nI_clamp (by omega), h1 a ha])
end
theorem ad_init {post : St1 → Prop} (H : ∀ a3, ad_H a3 → post (0, 0, 0, (fun _ => 0), (fun _ => 0), a3, (fun _ => 0), (fun _ => 0), (fun _ => 0), (fun _ => 0), (fun _ => 0), (fun _ => 0))) : wpX_init post 9 180 (0, 0, 0) := by
  refine ⟨by decide, by decide, by decide, by decide, by decide, by decide, by decide, by decide, by decide, by decide, by decide, by decide, by decide, by decide, by decide, by decide, by decide, by decide, ?_⟩
  refine pk_loop (fun n i b => wX_init_75 post 9 180 9 180 0 0 0 n (nI i) (fun _ => 0) (fun _ => 0) b (fun _ => 0) (fun _ => 0) (fun _ => 0) (fun _ => 0) (fun _ => 0) (fun _ => 0)) (fun i b => ∀ a w j, a < 8 → w < 4 → j < 64 → (ad_lb (b (4 * a + w)) j = true ↔ 64 * w + j < i ∧ (64 * w + j).testBit a = true)) 256 0 (fun _ => 0) (by omega) ?_ ?_ ?_
  · intro a w j _ _ _
    rw [ad_l0]
    exact ⟨fun z => absurd z (by decide), fun z => absurd z.1 (by omega)⟩
  · intro n b h
    refine pk_le 256 256 (fun _ => H b (fun a w j ha hw hj => ?_)) (fun z => absurd z (by omega))
    rw [Bool.eq_iff_iff, h a w j ha hw hj]
    exact ⟨fun z => z.2, fun z => ⟨by omega, z⟩⟩
  · intro n s b hs h hk
    refine pk_le 256 s (fun z => absurd z (by omega)) (fun _ => ?_)
    refine pk_loop (fun m i c => wX_init_84 post 9 180 (wX_init_75 post 9 180 9 180 0 0 0 n) (nI s) 9 180 0 0 0 m (nI i) (fun _ => 0) (fun _ => 0) c (fun _ => 0) (fun _ => 0) (fun _ => 0) (fun _ => 0) (fun _ => 0) (fun _ => 0)) (fun i c => ∀ a w j, a < 8 → w < 4 → j < 64 → (ad_lb (c (4 * a + w)) j = true ↔ (64 * w + j < s ∨ (64 * w + j = s ∧ a < i)) ∧ (64 * w + j).testBit a = true)) 8 0 b (by omega) ?_ ?_ ?_
    · intro a w j ha hw hj
      rw [h a w j ha hw hj]
      exact ⟨fun z => ⟨Or.inl z.1, z.2⟩, fun z => ⟨z.1.elim id (fun y => absurd y.2 (by omega)), z.2⟩⟩
    · intro m c hc
      refine pk_le 8 8 (fun _ => nm_r (nI_1 s) (hk _ (fun a w j ha hw hj => ?_))) (fun z => absurd z (by omega))
      rw [hc a w j ha hw hj]
      exact ⟨fun z => ⟨by omega, z.2⟩, fun z => ⟨by omega, z.2⟩⟩
    · intro m i c hi hc hm
      refine pk_le 8 i (fun z => absurd z (by omega)) (fun _ => ad_inb s i (fun e => ?_) (fun e => ?_) hs hi)
      · refine nm_r (nI_1 i) (hm _ (fun a w j ha hw hj => ?_))
        rw [hc a w j ha hw hj]
        constructor
        · rintro ⟨z1, z2⟩
          exact ⟨by omega, z2⟩
        · rintro ⟨z1, z2⟩
          refine ⟨?_, z2⟩
          rcases z1 with y | ⟨y1, y2⟩
          · exact Or.inl y
          · have : a ≠ i := fun q => ad_nt e (by rw [← q, ← y1]; exact z2)
            exact Or.inr ⟨y1, by omega⟩
      · have hi6 : 4 * nI i + nI s >>> ((6 : Int32) &&& 31) = nI (4 * i + s / 64) := by rw [ad_s6 (by omega), ad_4]
        refine ⟨pk_in (4 * i + s / 64) 32 (by omega) hi6, pk_in (4 * i + s / 64) 32 (by omega) hi6, nm_r (e' := vp_updL c (4 * i + s / 64) (c (4 * i + s / 64) ||| ((1 : Int64) <<< ((nI s &&& 63).toInt64 &&& 63)))) (by rw [hi6, nI_clamp (by omega)]) (nm_r (nI_1 i) (hm _ (fun a w j ha hw hj => ?_)))⟩
        by_cases q : 4 * a + w = 4 * i + s / 64
        · have qa : a = i := by omega
          have qw : w = s / 64 := by omega
          subst qa
          rw [q, pk_uLs, ad_lo, Bool.or_eq_true, ← q, hc a w j ha hw hj, ad_l1 hs, decide_eq_true_eq]
          have hj' : s % 64 = j ↔ 64 * w + j = s := by omega
          rw [hj']
          constructor
          · rintro (⟨z1, z2⟩ | z)
            · exact ⟨by omega, z2⟩
            · exact ⟨Or.inr ⟨z, by omega⟩, by rw [z]; exact e⟩
          · rintro ⟨z1, z2⟩
            by_cases y : 64 * w + j = s
            · exact Or.inr y
            · exact Or.inl ⟨by omega, z2⟩
        · rw [pk_uLn q, hc a w j ha hw hj]
          constructor
          · rintro ⟨z1, z2⟩
            exact ⟨by omega, z2⟩
          · rintro ⟨z1, z2⟩
            refine ⟨?_, z2⟩
            rcases z1 with y | ⟨y1, y2⟩
            · exact Or.inl y
            · have : a ≠ i := fun p => q (by rw [p]; omega)
              exact Or.inr ⟨y1, by omega⟩
end
section
/-! ===== the law ===== -/
abbrev ad_JT : Type := Int32 → Int32 → Int32 → Int32 → (Nat → Int32) → (Nat → Int32) → (Nat → Int64) → (Nat → Int64) → (Nat → Int64) → (Nat → Int64) → (Nat → Int64) → (Nat → Int32) → (Nat → Int32) → Prop
section
variable {P : Nat} {A B : Nat → Nat} {f0 f1 f2 : Int32} {a1 a2 : Nat → Int32} {a3 a4 a5 a6 a7 : Nat → Int64} {a8 a9 : Nat → Int32} {post : Int32 → Prop} {L : Nat} {xs : Nat → Int32} {J : ad_JT} {x2 : Int32} {kc ks : Nat}
theorem ad_l315 (hK : ad_K P A B f0 a1 a2 a3) (H : J (x2 + 2) f0 f1 f2 a1 a2 a3 a4 a5 a6 a7 a8 a9) : ∃ n, wL_law_315 post L xs J x2 (nI (ad_it P A B 8)) kc ks f0 f1 f2 a1 a2 a3 a4 a5 a6 a7 a8 a9 n 0 := by
  have h8 := ad_it8 (B := B) hK.1 8
  refine pk_loop (σ := Unit) (fun n i _ => wL_law_315 post L xs J x2 (nI (ad_it P A B 8)) kc ks f0 f1 f2 a1 a2 a3 a4 a5 a6 a7 a8 a9 n (nI i)) (fun _ _ => True) 8 0 () (by omega) trivial ?_ ?_
  · intro n _ _
    exact pk_le 8 8 (fun _ => nm_e H) (fun z => absurd z (by omega))
  · intro n i _ hi _ hw
    refine pk_le 8 i (fun z => absurd z (by omega)) (fun _ => ad_round hK hi (fun r hr => ?_))
    have next := hw () trivial
    refine ⟨fun z => ?_, fun z => ?_⟩
    · have hn : ¬ (ad_it P A B 8).testBit i = true := fun q => hr.mpr q z
      exact br_f (fun q => hn ((ad_tb1 h8 hi).mp q)) (br_t rfl (nm_r (nI_1 i) next))
    · exact br_t ((ad_tb1 h8 hi).mpr (hr.mp z)) (br_t rfl (nm_r (nI_1 i) next))
theorem ad_l270 (hK : ad_K P A B f0 a1 a2 a3) (hf : ¬ f1 = 0) (hg : ad_good P A B a4) (H : J (x2 + 2) f0 f1 f2 a1 a2 a3 a4 a5 a6 a7 a8 a9) : ∃ n, wL_law_270 post L xs J x2 (nI (ad_cnt a4 4 256)) kc ks n 0 f0 f1 f2 a1 a2 a3 a4 a5 a6 a7 a8 a9 := by
  have h256 := ad_cn (a := a4) (k := 4) 256
  refine pk_loop (σ := Unit) (fun n i _ => wL_law_270 post L xs J x2 (nI (ad_cnt a4 4 256)) kc ks n (nI i) f0 f1 f2 a1 a2 a3 a4 a5 a6 a7 a8 a9) (fun _ _ => True) (ad_cnt a4 4 256) 0 () (by omega) trivial ?_ ?_
  · intro n _ _
    refine pk_le (ad_cnt a4 4 256) (ad_cnt a4 4 256) (fun _ => ?_) (fun z => absurd z (by omega))
    obtain ⟨s, s1, s2⟩ := hg.1 3 (by omega) (by omega) (by omega) (by omega)
    refine ad_set (k := 3) (c := 0) hf (by omega) (ad_cpos s2 256 s1) (fun s t1 t2 => ?_)
    have e := (hg.2.1 s t1).mp t2
    subst e
    exact ad_l315 hK H
  · intro n i _ hi _ hw
    refine pk_le (ad_cnt a4 4 256) i (fun z => absurd z (by omega)) (fun _ => ?_)
    refine ad_set (k := 4) (c := i) hf (by omega) hi (fun s t1 t2 => ?_)
    obtain ⟨u1, u2⟩ := hg.2.2.2.1 s t1 t2
    exact ad_is (k := 2) hf hK.2.2.1 (by omega) t1 u1 u2 (br_f (by decide) (nm_r (nI_1 i) (hw () trivial)))
theorem ad_l260 (hK : ad_K P A B f0 a1 a2 a3) (hf : ¬ f1 = 0) (hg : ad_good P A B a4) (H : ∀ (e1 e2 : Int32) (b4 b5 b6 b7 : Nat → Int64) (b8 b9 : Nat → Int32), ¬ e1 = 0 → ad_good P A B b4 → J (x2 + 2) f0 e1 e2 a1 a2 a3 b4 b5 b6 b7 b8 b9) : wL_law_260 post L xs J x2 kc ks f0 f1 f2 a1 a2 a3 a4 a5 a6 a7 a8 a9 :=
  ad_count (k := 4) hK (Or.inr hg) (by omega) (fun e1 e2 b4 b5 b6 b7 b8 b9 h1 h2 => ad_l270 hK h1 h2 (H e1 e2 b4 b5 b6 b7 b8 b9 h1 h2))
theorem ad_l165 (hK : ad_K P A B f0 a1 a2 a3) (hf : ¬ f1 = 0) (hg : ad_good P A B a4) (H : ∀ (e1 e2 : Int32) (b4 b5 b6 b7 : Nat → Int64) (b8 b9 : Nat → Int32), ¬ e1 = 0 → ad_good P A B b4 → J (x2 + 2) f0 e1 e2 a1 a2 a3 b4 b5 b6 b7 b8 b9) : ∃ n, wL_law_165 post L xs J x2 (nI (ad_cnt a4 5 256)) kc ks n 0 f0 f1 f2 a1 a2 a3 a4 a5 a6 a7 a8 a9 := by
  have h256 := ad_cn (a := a4) (k := 5) 256
  refine pk_loop (σ := Unit) (fun n i _ => wL_law_165 post L xs J x2 (nI (ad_cnt a4 5 256)) kc ks n (nI i) f0 f1 f2 a1 a2 a3 a4 a5 a6 a7 a8 a9) (fun _ _ => True) (ad_cnt a4 5 256) 0 () (by omega) trivial ?_ ?_
  · intro n _ _
    refine pk_le (ad_cnt a4 5 256) (ad_cnt a4 5 256) (fun _ => ?_) (fun z => absurd z (by omega))
    refine pk_le (ad_cnt a4 5 256) 0 (fun _ => ad_l260 hK hf hg H) (fun hc => ?_)
    have hex : ∃ s, s < 256 ∧ ad_mm a4 5 s := by
      apply Classical.byContradiction
      intro hn
      have : ∀ n, n ≤ 256 → ad_cnt a4 5 n = 0 := by
        intro n
        induction n with
        | zero => intro _; rfl
        | succ n ih =>
          intro hle
          rw [ad_cf (fun q => hn ⟨n, by omega, q⟩)]
          exact ih (by omega)
      have := this 256 (Nat.le_refl 256)
      omega
    have he := hg.2.2.2.2 hex
    refine ad_agree (k := 5) (m := 6) hf (by omega) (by omega) (fun w hw => (he w hw).1) (br_f (by decide) ?_)
    exact ad_agree (k := 6) (m := 7) hf (by omega) (by omega) (fun w hw => (he w hw).2) (br_f (by decide) (ad_l260 hK hf hg H))
  · intro n i _ hi _ hw
    refine pk_le (ad_cnt a4 5 256) i (fun z => absurd z (by omega)) (fun _ => ?_)
    refine ad_set (k := 5) (c := i) hf (by omega) hi (fun s t1 t2 => ?_)
    obtain ⟨u1, u2, u3, u4, u5⟩ := hg.2.2.1 s t1 t2
    refine ad_is (k := 4) hf hK.2.2.1 (by omega) t1 u1 u2 (br_f (by decide) ?_)
    refine ad_is (k := 6) hf hK.2.2.1 (by omega) t1 u1 u3 (br_f (by decide) ?_)
    refine ad_is (k := 7) hf hK.2.2.1 (by omega) t1 u1 u4 (br_f (by decide) ?_)
    exact ad_is (k := 8) hf hK.2.2.1 (by omega) t1 u1 u5 (br_f (by decide) (nm_r (nI_1 i) (hw () trivial)))
theorem ad_l121 {J9 : ad_JT} {k n : Nat} (hk : k < 12) (hn : n ≤ 256) (h : k ≠ 5 → k ≠ 6 → k ≠ 7 → 1 ≤ n) (H : J9 (nI (k + 1)) f0 f1 f2 a1 a2 a3 a4 a5 a6 a7 a8 a9) : wL_law_121 post L xs J J9 x2 (nI k) (nI n) kc ks f0 f1 f2 a1 a2 a3 a4 a5 a6 a7 a8 a9 :=
  pk_eq k 5 (fun _ => nm_r (nI_1 k) H) (fun z5 => pk_eq k 6 (fun _ => nm_r (nI_1 k) H) (fun z6 => pk_eq k 7 (fun _ => nm_r (nI_1 k) H) (fun z7 => pk_le 1 n (fun _ => nm_r (nI_1 k) H) (fun z => absurd (h z5 z6 z7) (by omega)))))
theorem ad_l89 (hK : ad_K P A B f0 a1 a2 a3) (hg : f1 = 0 ∨ ad_good P A B a4) (H : ∀ (e1 e2 : Int32) (b4 b5 b6 b7 : Nat → Int64) (b8 b9 : Nat → Int32), ¬ e1 = 0 → ad_good P A B b4 → J (x2 + 2) f0 e1 e2 a1 a2 a3 b4 b5 b6 b7 b8 b9) : ∃ n, wL_law_89 post L xs J x2 kc ks n 0 f0 f1 f2 a1 a2 a3 a4 a5 a6 a7 a8 a9 := by
  refine pk_loop (σ := Int32 × Int32 × (Nat → Int64) × (Nat → Int64) × (Nat → Int64) × (Nat → Int64) × (Nat → Int32) × (Nat → Int32)) (fun n i s => wL_law_89 post L xs J x2 kc ks n (nI i) f0 s.1 s.2.1 a1 a2 a3 s.2.2.1 s.2.2.2.1 s.2.2.2.2.1 s.2.2.2.2.2.1 s.2.2.2.2.2.2.1 s.2.2.2.2.2.2.2) (fun _ s => s.1 = 0 ∨ ad_good P A B s.2.2.1) 12 0 (f1, f2, a4, a5, a6, a7, a8, a9) (by omega) hg ?_ ?_
  · rintro n ⟨f1, f2, a4, a5, a6, a7, a8, a9⟩ hs
    exact pk_le 12 12 (fun _ => ad_count (k := 5) hK hs (by omega) (fun e1 e2 b4 b5 b6 b7 b8 b9 h1 h2 => ad_l165 hK h1 h2 H)) (fun z => absurd z (by omega))
  · rintro n k ⟨f1, f2, a4, a5, a6, a7, a8, a9⟩ hk hs hw
    refine pk_le 12 k (fun z => absurd z (by omega)) (fun _ => ad_count (k := k) hK hs hk (fun e1 e2 b4 b5 b6 b7 b8 b9 h1 h2 => ?_))
    have h256 := ad_cn (a := b4) (k := k) 256
    have hpos : k ≠ 5 → k ≠ 6 → k ≠ 7 → 1 ≤ ad_cnt b4 k 256 := by
      intro z5 z6 z7
      obtain ⟨s, s1, s2⟩ := h2.1 k hk z5 z6 z7
      exact ad_cpos s2 256 s1
    have next := hw (e1, e2, b4, b5, b6, b7, b8, b9) (Or.inr h2)
    refine br_f (nI_pos (by omega)) (pk_eq k 3 (fun e => ?_) (fun e => ad_l121 hk h256 hpos next))
    subst e
    have h3 := ad_c1 256 (Nat.le_refl 256) h2.2.1
    rw [if_pos (ad_it8 hK.1 8)] at h3
    exact br_t (by rw [h3]; rfl) (ad_l121 hk h256 hpos next)
end
theorem ad_m7 (x : Int32) : ∃ j : Nat, j < 8 ∧ x &&& 7 = nI j := pk_andE x 3 (by decide)
theorem i_vc (xs : Nat → Int32) (L : Nat) (hL : L ≤ 260) : wpL_law (fun r => r = 1) L xs := by
  refine ⟨9, 180, by decide, by decide, ad_init (fun a3 hH => ?_)⟩
  refine loop_m (σ := Nat × Int32 × Int32 × Int32 × (Nat → Int32) × (Nat → Int32) × (Nat → Int64) × (Nat → Int64) × (Nat → Int64) × (Nat → Int64) × (Nat → Int32) × (Nat → Int32))
    (fun n s => wL_law_10 (fun r => r = 1) L xs (1 + 9) (12 + 180) n (nI s.1) s.2.1 s.2.2.1 s.2.2.2.1 s.2.2.2.2.1 s.2.2.2.2.2.1 a3 s.2.2.2.2.2.2.1 s.2.2.2.2.2.2.2.1 s.2.2.2.2.2.2.2.2.1 s.2.2.2.2.2.2.2.2.2.1 s.2.2.2.2.2.2.2.2.2.2.1 s.2.2.2.2.2.2.2.2.2.2.2)
    (fun s => s.1 ≤ 262 ∧ ∃ P A B, ad_K P A B s.2.1 s.2.2.2.2.1 s.2.2.2.2.2.1 a3 ∧ (s.2.2.1 = 0 ∨ ad_good P A B s.2.2.2.2.2.2.1)) (fun s => 262 - s.1) ?_
    (0, 0, 0, 0, (fun _ => 0), (fun _ => 0), (fun _ => 0), (fun _ => 0), (fun _ => 0), (fun _ => 0), (fun _ => 0), (fun _ => 0))
    ⟨by show 0 ≤ 262; omega, 0, (fun _ => 0), (fun _ => 0), ⟨⟨by decide, fun a b h => absurd h (ad_b0 b)⟩, fun a b => by show (0 : Nat).testBit a = (0 : Nat).testBit b; rw [Nat.zero_testBit, Nat.zero_testBit], rfl, fun _ _ => rfl, fun _ _ => rfl, hH⟩, Or.inl rfl⟩
  rintro n ⟨i, f0, f1, f2, a1, a2, a4, a5, a6, a7, a8, a9⟩ ⟨hi, P, A, B, hK, hg⟩ hw
  dsimp only at hi hK hg hw ⊢
  have hlt : nI L - 2 < nI i ↔ L < i + 2 := by
    have h1 : (nI L - nI 2).toInt = (L : Int) - 2 := pk_sub_toInt (by omega) (by omega)
    have h2 : (nI i).toInt = (i : Int) := nI_toInt (by omega)
    show nI L - nI 2 < nI i ↔ _
    rw [Int32.lt_iff_toInt_lt, h1, h2]
    omega
  refine br_c (fun _ => rfl) (fun z => ?_)
  have hz : i + 2 ≤ L := by
    have : ¬ L < i + 2 := fun q => z (hlt.mpr q)
    omega
  refine ⟨pk_in (i + 1) L (by omega) (nI_1 i), fun x3 _ => ⟨pk_in i L (by omega), ?_⟩⟩
  obtain ⟨p, hp, ep⟩ := ad_m7 x3
  obtain ⟨q, hq, eq⟩ := ad_m7 (x3 >>> ((3 : Int32) &&& 31))
  have next : ∀ (e0 e1 e2 : Int32) (P' : Nat) (A' B' : Nat → Nat) (b1 b2 : Nat → Int32) (b4 b5 b6 b7 : Nat → Int64) (b8 b9 : Nat → Int32), ad_K P' A' B' e0 b1 b2 a3 → (e1 = 0 ∨ ad_good P' A' B' b4) → ∃ m, wL_law_89 (fun r => r = 1) L xs (wL_law_10 (fun r => r = 1) L xs (1 + 9) (12 + 180) n) (nI i) (1 + 9) (12 + 180) m 0 e0 e1 e2 b1 b2 a3 b4 b5 b6 b7 b8 b9 := by
    intro e0 e1 e2 P' A' B' b1 b2 b4 b5 b6 b7 b8 b9 hK' hg'
    refine ad_l89 hK' hg' (fun e1 e2 b4 b5 b6 b7 b8 b9 h1 h2 => ?_)
    rw [show nI i + 2 = nI (i + 2) from nI_add i 2]
    exact hw (i + 2, e0, e1, e2, b1, b2, b4, b5, b6, b7, b8, b9) ⟨by show i + 2 ≤ 262; omega, P', A', B', hK', Or.inr h2⟩ (by show 262 - (i + 2) < 262 - i; omega)
  refine br_c (fun _ => ?_) (fun _ => ?_)
  · refine br_c (fun _ => ?_) (fun _ => ?_)
    · exact ad_attack hK hg hp hq (fun r e0 e1 P' A' B' b1 b2 k1 k2 => next e0 e1 f2 P' A' B' b1 b2 a4 a5 a6 a7 a8 a9 k1 k2) ep eq
    · exact ad_attack hK hg hp hq (fun r e0 e1 P' A' B' b1 b2 k1 k2 => next e0 e1 f2 P' A' B' b1 b2 a4 a5 a6 a7 a8 a9 k1 k2) ep eq
  · refine br_c (fun _ => ?_) (fun _ => ?_)
    · exact ad_put hK hg hp (Or.inl rfl) (fun r e0 e1 P' A' B' b1 b2 k1 k2 => next e0 e1 f2 P' A' B' b1 b2 a4 a5 a6 a7 a8 a9 k1 k2) ep
    · exact ad_put hK hg hp (Or.inr rfl) (fun r e0 e1 P' A' B' b1 b2 k1 k2 => next e0 e1 f2 P' A' B' b1 b2 a4 a5 a6 a7 a8 a9 k1 k2) ep
end
